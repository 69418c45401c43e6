/-! the reference: what is asked -/
set_option maxRecDepth 100000
/-- an answer: the code of what is thrown (0: nothing), and the value -/
def an_c (b : Bool) (c : Nat) (r : Nat × Int32) : Nat × Int32 := bif b then r else (c, 0)
def mx_pl (x y : Int32) : Bool := mx_ix x 16 && mx_ix y 12
def an_cv (u : Nat → Nat) (pm : Int32) (k : Nat) : Int32 := if k = 1 then nI (mx_lm u) else if k = 3 then nI (mx_mon u) else if k = 4 then nI (u 2 / 360) else if k = 8 then nI (mx_aw u) else if k = 9 then nI (mx_ca u / 2) else if k = 10 then nI (mx_cnt (mx_si u) 192) else if k = 11 then pm else nI (u k)
def an_count (u : Nat → Nat) (pm x : Int32) : Nat × Int32 := an_c (mx_ix x 12) 1 (0, an_cv u pm (mx_n x))
def an_account (u : Nat → Nat) (x : Int32) : Nat × Int32 := an_c (mx_ix x 9) 1 (0, nI (u (8 + mx_n x)))
def an_pv (u : Nat → Nat) (k j : Nat) : Int32 := if j = 10 then nI (mx_st 16 (mx_p u k 0) (mx_p u k 1) + 1) else if j = 11 then nI (mx_st 12 (mx_p u k 2) (mx_p u k 3) + 1) else if j = 12 then nI (mx_co u k) else nI (mx_p u k j)
def an_proverb (u : Nat → Nat) (q x : Int32) : Nat × Int32 := an_c (mx_ix q (u 0)) 1 (an_c (mx_ix x 13) 2 (0, an_pv u (mx_n q) (mx_n x)))
def an_speaks (u : Nat → Nat) (q x y : Int32) : Nat × Int32 := an_c (mx_ix q (u 0)) 1 (an_c (mx_ix x 16 && mx_ix y 12) 1 (0, kx_b (mx_sp u (mx_n q) (mx_n x) (mx_n y))))
def an_speakers (u : Nat → Nat) (x y : Int32) : Nat × Int32 := an_c (mx_ix x 16 && mx_ix y 12) 1 (0, nI (mx_sa u (mx_n x) (mx_n y)))
def mx_fst (g : Nat → Bool) : Nat → Option Nat
  | 0 => none
  | n + 1 => match mx_fst g n with
    | some b => some b
    | none => if g n then some n else none
theorem mx_fst_s {g : Nat → Bool} {n : Nat} (h : mx_fst g n = none) (hg : g n = false) : mx_fst g (n + 1) = none := by unfold mx_fst; rw [h]; simp [hg]
theorem mx_fst_t {g : Nat → Bool} {i : Nat} (h : mx_fst g i = none) (hg : g i = true) : ∀ n, i < n → mx_fst g n = some i
  | 0, hn => absurd hn (Nat.not_lt_zero i)
  | n + 1, hn => by
    unfold mx_fst
    by_cases e : i = n
    · subst e; rw [h]; simp [hg]
    · rw [mx_fst_t h hg n (by omega)]
def an_kth (u : Nat → Nat) (pt mo : Nat) (l : Int32) : Option Nat := mx_fst (fun k => mx_sp u k pt mo && decide (nI (mx_cnt (fun k => mx_sp u k pt mo) k) = l)) (u 0)
def an_speaker (u : Nat → Nat) (x y l : Int32) : Nat × Int32 := an_c (mx_ix x 16 && mx_ix y 12) 1 (0, mx_o (an_kth u (mx_n x) (mx_n y) l))
def an_voice (u : Nat → Nat) (x y w : Int32) : Nat × Int32 := an_c (mx_ix x 16 && mx_ix y 12) 1 (an_c (mx_ix w 5) 2 (0, nI (mx_vo u (mx_n x) (mx_n y) (mx_n w))))
def an_told (u : Nat → Nat) (x y : Int32) : Nat × Int32 := an_c (mx_ix x 16 && mx_ix y 12) 1 (0, mx_o (mx_told u (mx_n x) (mx_n y)))
def mx_nx (u : Nat → Nat) (pt mo : Nat) : Nat := mx_max (fun w => !decide (mx_told u pt mo = some w)) (mx_vo u pt mo) 5
def mx_ld (u : Nat → Nat) (pt mo : Nat) : Int32 := match mx_told u pt mo with
  | none => -1
  | some b => nI (mx_vo u pt mo b) - nI (mx_nx u pt mo)
def an_lead (u : Nat → Nat) (x y : Int32) : Nat × Int32 := an_c (mx_ix x 16 && mx_ix y 12) 1 (0, mx_ld u (mx_n x) (mx_n y))
def mx_rs (u : Nat → Nat) (pt mo w : Nat) : Nat := match mx_told u pt mo with
  | none => 1
  | some b => if b = w then 0 else if mx_vo u pt mo w = 0 then 2 else if mx_vo u pt mo w < mx_vo u pt mo b then 3 else 4
def mx_dp (u : Nat → Nat) (pt mo w : Nat) : Int32 := if mx_rs u pt mo w = 4 then nI (400 + mx_cnt (mx_say u pt mo w) (u 0)) else match mx_told u pt mo with
  | none => nI 0
  | some b => if mx_rs u pt mo w = 3 then nI (Nat.min 9999 (1000 + mx_vo u pt mo b - mx_vo u pt mo w)) else nI 0
def mx_wy (u : Nat → Nat) (pt mo w d : Nat) : Int32 := if d = 0 then nI (mx_rs u pt mo w) else if d = 2 then mx_dp u pt mo w else match mx_told u pt mo with
  | none => nI 0
  | some b => if 1 < mx_rs u pt mo w then nI (100 * (mx_rs u pt mo w - 1) + b) else nI 0
def an_why (u : Nat → Nat) (x y w d : Int32) : Nat × Int32 := an_c (mx_ix x 16 && mx_ix y 12) 1 (an_c (mx_ix w 5) 2 (an_c (mx_ix d 3) 2 (0, mx_wy u (mx_n x) (mx_n y) (mx_n w) (mx_n d))))
def an_clash (u : Nat → Nat) (q r : Int32) : Nat × Int32 := an_c (mx_ix q (u 0)) 1 (an_c (mx_ix r (u 0)) 1 (0, kx_b (mx_cl u (mx_n q) (mx_n r))))
def an_met (b : Nat) (u : Nat → Nat) (q r : Int32) : Nat × Int32 := an_c (mx_ix q (u 0)) 1 (an_c (mx_ix r (u 0)) 1 (0, nI (u (b + 24 * mx_n q + mx_n r))))
def an_rival (u : Nat → Nat) (q : Int32) : Nat × Int32 := an_c (mx_ix q (u 0)) 1 (0, mx_o (mx_best (fun k => u (841 + 24 * k + mx_n q)) (u 0)))
def mx_hv (u : Nat → Nat) (k q : Nat) : Bool := mx_live u q && decide (mx_p u k 6 < mx_p u q 6 ∨ mx_p u q 6 = mx_p u k 6 ∧ q < k)
def mx_rk (u : Nat → Nat) (k : Nat) : Nat := mx_cnt (mx_hv u k) (u 0)
def an_byw (u : Nat → Nat) (x : Int32) : Int32 := mx_o (mx_fst (fun k => mx_live u k && decide (nI (mx_rk u k) = x)) (u 0))
def an_year (u : Nat → Nat) (x y : Int32) : Nat × Int32 := an_c (mx_ix x 2 && mx_ix y 4) 1 (0, nI (u (17 + 4 * mx_n x + mx_n y)))
def an_dayOf (u : Nat → Nat) (L : Nat → Int32) (x y : Int32) : Nat × Int32 := an_c (mx_ix y 3) 1 (0, bif mx_ix x (u 2) then L (3 * mx_n x + mx_n y) else -1)
set_option maxHeartbeats 1000000 in
theorem mt_X4_account {l : Launch} {G : kx_G} (htr : l.stackTraces = false) {σ : kx_H} {mo : Nat} {ad : Nat → Nat} {z : Nat → Int32} {u : Nat → Nat} {x : Int32} (h0 : σ (1, 0) = some (mo, .inr (3, mo_L ad z))) (hw : σ (1, 1) = some (ad 0, kx_ai G 1417 (mx_w u))) : kx_SP l G yX4_account (ws_ yX4_account cX4_account 2 (some .int)) 2 0 0 [.ref mo, .int x] σ (fun v τ => v = some (.int (an_account u x).2) ∧ τ = kx_up σ (1, 0) (mo, .inr (3, mo_L ad (mo_z z 9 (nI (an_account u x).1))))) kx_nx := by
  refine kx_body htr (by decide +kernel) (own := "RoseProverbsModel") (nm := "account") rfl rfl (Nat.le_of_ble_eq_true rfl) ?_
  intro p e s m args below meth c Q C hQ
  first | refine ri_aload_n C dX4_account_0 rfl ?_ | refine ri_aload_nQ C dX4_account_0 rfl ?_ | refine ri_aload_nN C dX4_account_0 rfl ?_
  refine ri_iconst C dX4_account_1 kc_i0 ?_
  refine ri_putf C dX4_account_2 fd_q2979_3 (fun h => nomatch h) (by first | assumption | (repeat (first | assumption | exact kx_rs (by assumption) | exact kx_ne2 (by omega) | exact kx_ne1 (by omega) | refine kx_ro (by assumption) ?_ ?_ | exact kx_rs rfl | refine kx_ro rfl ?_ ?_))) (Nat.le_of_ble_eq_true rfl) (by rfl) (by rfl) mo_set9 (fun s2 e2 => ?_)
  first | refine ri_aload_n C dX4_account_5 rfl ?_ | refine ri_aload_nQ C dX4_account_5 rfl ?_ | refine ri_aload_nN C dX4_account_5 rfl ?_
  refine ri_iload_n C dX4_account_6 rfl ?_
  refine ri_iconst C dX4_account_7 kc_i0 ?_
  refine ri_bipush C dX4_account_8 kc_b8 ?_
  cases c1 : mx_ix x 9
  · refine ri_callS C km_X4_inRange q3071 dX4_account_10 (mt_X4_inRange htr) rfl rfl ⟨⟨(Nat.le_of_ble_eq_true rfl), (Nat.le_of_ble_eq_true rfl)⟩, (Nat.le_of_ble_eq_true rfl), (Nat.le_of_ble_eq_true rfl), (Nat.le_of_ble_eq_true rfl)⟩ (fun v10 s10 h10 => ?_) (fun _ _ _ h => h.elim)
    obtain ⟨rfl, rfl⟩ := h10
    rw [mx_ix_0 (by decide), c1]
    first | refine ri_if_neB C 20 dX4_account_13 rfl (fun h13 => ?_) (fun h13 => ?_) | refine ri_if_neN C 20 dX4_account_13 rfl (by omega) (fun h13 => ?_) (fun h13 => ?_) | refine ri_if_ne C 20 dX4_account_13 rfl (fun h13 => ?_) (fun h13 => ?_)
    · exact absurd h13 (by decide) --dead
    · refine ri_iconst C dX4_account_16 kc_i1 ?_
      refine ri_goto C 21 dX4_account_17 rfl ?_
      refine ri_iconst C dX4_account_21 kc_i1 ?_
      refine ri_callV C km_X4_fails q3303 qs106 dX4_account_22 (mt_X4_fails htr (b := true) (by first | assumption | (repeat (first | assumption | exact kx_rs (by assumption) | exact kx_ne2 (by omega) | exact kx_ne1 (by omega) | refine kx_ro (by assumption) ?_ ?_ | exact kx_rs rfl | refine kx_ro rfl ?_ ?_)))) rfl rfl (kx_rcN C (by first | assumption | (repeat (first | assumption | exact kx_rs (by assumption) | exact kx_ne2 (by omega) | exact kx_ne1 (by omega) | refine kx_ro (by assumption) ?_ ?_ | exact kx_rs rfl | refine kx_ro rfl ?_ ?_))) rfl) ⟨⟨(Nat.le_of_ble_eq_true rfl), (Nat.le_of_ble_eq_true rfl)⟩, (Nat.le_of_ble_eq_true rfl), (Nat.le_of_ble_eq_true rfl), (Nat.le_of_ble_eq_true rfl)⟩ (fun v22 s22 h22 => ?_) (fun _ _ _ h => h.elim)
      obtain ⟨rfl, e22⟩ := h22
      rw [cond_true] at e22
      first | refine ri_if_eqB C 32 dX4_account_25 rfl (fun h25 => ?_) (fun h25 => ?_) | refine ri_if_eqN C 32 dX4_account_25 rfl (by omega) (fun h25 => ?_) (fun h25 => ?_) | refine ri_if_eq C 32 dX4_account_25 rfl (fun h25 => ?_) (fun h25 => ?_)
      · exact absurd h25 (by decide) --dead
      · refine ri_iconst C dX4_account_28 kc_i0 ?_
        refine ri_goto C 41 dX4_account_29 rfl ?_
        exact ri_iret C hQ dX4_account_41 (by first | rfl | exact kx_b_nar _) (Nat.le_of_ble_eq_true rfl) (Nat.le_of_ble_eq_true rfl) (by simp only [an_account, an_c, c1, Bool.and_true, Bool.and_false, Bool.true_and, cond_true, cond_false]; exact ⟨by first | rfl | trivial, by first | assumption | simp only [*, kx_up_u, mo_z_z]⟩)
  · obtain ⟨k1, hk1, rfl⟩ := mx_ix_t c1
    have nk1 : mx_n (nI k1) = k1 := mx_n_nI (by omega)
    refine ri_callS C km_X4_inRange q3071 dX4_account_10 (mt_X4_inRange htr) rfl rfl ⟨⟨(Nat.le_of_ble_eq_true rfl), (Nat.le_of_ble_eq_true rfl)⟩, (Nat.le_of_ble_eq_true rfl), (Nat.le_of_ble_eq_true rfl), (Nat.le_of_ble_eq_true rfl)⟩ (fun v10 s10 h10 => ?_) (fun _ _ _ h => h.elim)
    obtain ⟨rfl, rfl⟩ := h10
    rw [mx_ix_0 (by decide), c1]
    first | refine ri_if_neB C 20 dX4_account_13 rfl (fun h13 => ?_) (fun h13 => ?_) | refine ri_if_neN C 20 dX4_account_13 rfl (by omega) (fun h13 => ?_) (fun h13 => ?_) | refine ri_if_ne C 20 dX4_account_13 rfl (fun h13 => ?_) (fun h13 => ?_)
    · refine ri_iconst C dX4_account_20 kc_i0 ?_
      refine ri_iconst C dX4_account_21 kc_i1 ?_
      refine ri_callV C km_X4_fails q3303 qs106 dX4_account_22 (mt_X4_fails htr (b := false) (by first | assumption | (repeat (first | assumption | exact kx_rs (by assumption) | exact kx_ne2 (by omega) | exact kx_ne1 (by omega) | refine kx_ro (by assumption) ?_ ?_ | exact kx_rs rfl | refine kx_ro rfl ?_ ?_)))) rfl rfl (kx_rcN C (by first | assumption | (repeat (first | assumption | exact kx_rs (by assumption) | exact kx_ne2 (by omega) | exact kx_ne1 (by omega) | refine kx_ro (by assumption) ?_ ?_ | exact kx_rs rfl | refine kx_ro rfl ?_ ?_))) rfl) ⟨⟨(Nat.le_of_ble_eq_true rfl), (Nat.le_of_ble_eq_true rfl)⟩, (Nat.le_of_ble_eq_true rfl), (Nat.le_of_ble_eq_true rfl), (Nat.le_of_ble_eq_true rfl)⟩ (fun v22 s22 h22 => ?_) (fun _ _ _ h => h.elim)
      obtain ⟨rfl, e22⟩ := h22
      rw [cond_false] at e22
      subst e22
      first | refine ri_if_eqB C 32 dX4_account_25 rfl (fun h25 => ?_) (fun h25 => ?_) | refine ri_if_eqN C 32 dX4_account_25 rfl (by omega) (fun h25 => ?_) (fun h25 => ?_) | refine ri_if_eq C 32 dX4_account_25 rfl (fun h25 => ?_) (fun h25 => ?_)
      · first | refine ri_aload_n C dX4_account_32 rfl ?_ | refine ri_aload_nQ C dX4_account_32 rfl ?_ | refine ri_aload_nN C dX4_account_32 rfl ?_
        refine ri_getf C dX4_account_33 fr_q2970_3 (by first | assumption | (repeat (first | assumption | exact kx_rs (by assumption) | exact kx_ne2 (by omega) | exact kx_ne1 (by omega) | refine kx_ro (by assumption) ?_ ?_ | exact kx_rs rfl | refine kx_ro rfl ?_ ?_))) (by rfl) ?_
        refine ri_bipush C dX4_account_36 kc_b8 ?_
        refine ri_iload_n C dX4_account_38 rfl ?_
        first | refine ri_iaddN C dX4_account_39 ?_ | refine ri_iadd C dX4_account_39 ?_
        first | refine ri_ialoadN C dX4_account_40 (by first | assumption | (repeat (first | assumption | exact kx_rs (by assumption) | exact kx_ne2 (by omega) | exact kx_ne1 (by omega) | refine kx_ro (by assumption) ?_ ?_ | exact kx_rs rfl | refine kx_ro rfl ?_ ?_))) rfl (by omega) ?_ | refine ri_iaload C dX4_account_40 (by first | assumption | (repeat (first | assumption | exact kx_rs (by assumption) | exact kx_ne2 (by omega) | exact kx_ne1 (by omega) | refine kx_ro (by assumption) ?_ ?_ | exact kx_rs rfl | refine kx_ro rfl ?_ ?_))) rfl (by omega) ?_
        exact ri_iret C hQ dX4_account_41 (by first | rfl | exact kx_b_nar _) (Nat.le_of_ble_eq_true rfl) (Nat.le_of_ble_eq_true rfl) (by simp only [an_account, an_c, c1, nk1, Bool.and_true, Bool.and_false, Bool.true_and, cond_true, cond_false]; exact ⟨by first | rfl | trivial, by first | assumption | simp only [*, kx_up_u, mo_z_z]⟩)
      · exact absurd h25 (by decide) --dead
    · exact absurd h13 (by decide) --dead
set_option maxHeartbeats 1000000 in
theorem mt_X4_count {l : Launch} {G : kx_G} (htr : l.stackTraces = false) {σ : kx_H} {mo : Nat} {ad : Nat → Nat} {z : Nat → Int32} {u : Nat → Nat} {x : Int32} (h0 : σ (1, 0) = some (mo, .inr (3, mo_L ad z))) (hw : σ (1, 1) = some (ad 0, kx_ai G 1417 (mx_w u))) (hu : mx_ok u) (hd : u 2 < 50000) : kx_SP l G yX4_count (ws_ yX4_count cX4_count 2 (some .int)) 8 0 0 [.ref mo, .int x] σ (fun v τ => v = some (.int (an_count u (z 7) x).2) ∧ τ = kx_up σ (1, 0) (mo, .inr (3, mo_L ad (mo_z z 9 (nI (an_count u (z 7) x).1))))) kx_nx := by
  refine kx_body htr (by decide +kernel) (own := "RoseProverbsModel") (nm := "count") rfl rfl (Nat.le_of_ble_eq_true rfl) ?_
  intro p e s m args below meth c Q C hQ
  first | refine ri_aload_n C dX4_count_0 rfl ?_ | refine ri_aload_nQ C dX4_count_0 rfl ?_ | refine ri_aload_nN C dX4_count_0 rfl ?_
  refine ri_iconst C dX4_count_1 kc_i0 ?_
  refine ri_putf C dX4_count_2 fd_q2979_3 (fun h => nomatch h) (by first | assumption | (repeat (first | assumption | exact kx_rs (by assumption) | exact kx_ne2 (by omega) | exact kx_ne1 (by omega) | refine kx_ro (by assumption) ?_ ?_ | exact kx_rs rfl | refine kx_ro rfl ?_ ?_))) (Nat.le_of_ble_eq_true rfl) (by rfl) (by rfl) mo_set9 (fun s2 e2 => ?_)
  first | refine ri_aload_n C dX4_count_5 rfl ?_ | refine ri_aload_nQ C dX4_count_5 rfl ?_ | refine ri_aload_nN C dX4_count_5 rfl ?_
  refine ri_iload_n C dX4_count_6 rfl ?_
  refine ri_iconst C dX4_count_7 kc_i0 ?_
  refine ri_bipush C dX4_count_8 kc_b11 ?_
  cases c1 : mx_ix x 12
  · refine ri_callS C km_X4_inRange q3071 dX4_count_10 (mt_X4_inRange htr) rfl rfl ⟨⟨(Nat.le_of_ble_eq_true rfl), (Nat.le_of_ble_eq_true rfl)⟩, (Nat.le_of_ble_eq_true rfl), (Nat.le_of_ble_eq_true rfl), (Nat.le_of_ble_eq_true rfl)⟩ (fun v10 s10 h10 => ?_) (fun _ _ _ h => h.elim)
    obtain ⟨rfl, rfl⟩ := h10
    rw [mx_ix_0 (by decide), c1]
    first | refine ri_if_neB C 20 dX4_count_13 rfl (fun h13 => ?_) (fun h13 => ?_) | refine ri_if_neN C 20 dX4_count_13 rfl (by omega) (fun h13 => ?_) (fun h13 => ?_) | refine ri_if_ne C 20 dX4_count_13 rfl (fun h13 => ?_) (fun h13 => ?_)
    · exact absurd h13 (by decide) --dead
    · refine ri_iconst C dX4_count_16 kc_i1 ?_
      refine ri_goto C 21 dX4_count_17 rfl ?_
      refine ri_iconst C dX4_count_21 kc_i1 ?_
      refine ri_callV C km_X4_fails q3303 qs106 dX4_count_22 (mt_X4_fails htr (b := true) (by first | assumption | (repeat (first | assumption | exact kx_rs (by assumption) | exact kx_ne2 (by omega) | exact kx_ne1 (by omega) | refine kx_ro (by assumption) ?_ ?_ | exact kx_rs rfl | refine kx_ro rfl ?_ ?_)))) rfl rfl (kx_rcN C (by first | assumption | (repeat (first | assumption | exact kx_rs (by assumption) | exact kx_ne2 (by omega) | exact kx_ne1 (by omega) | refine kx_ro (by assumption) ?_ ?_ | exact kx_rs rfl | refine kx_ro rfl ?_ ?_))) rfl) ⟨⟨(Nat.le_of_ble_eq_true rfl), (Nat.le_of_ble_eq_true rfl)⟩, (Nat.le_of_ble_eq_true rfl), (Nat.le_of_ble_eq_true rfl), (Nat.le_of_ble_eq_true rfl)⟩ (fun v22 s22 h22 => ?_) (fun _ _ _ h => h.elim)
      obtain ⟨rfl, e22⟩ := h22
      rw [cond_true] at e22
      first | refine ri_if_eqB C 30 dX4_count_25 rfl (fun h25 => ?_) (fun h25 => ?_) | refine ri_if_eqN C 30 dX4_count_25 rfl (by omega) (fun h25 => ?_) (fun h25 => ?_) | refine ri_if_eq C 30 dX4_count_25 rfl (fun h25 => ?_) (fun h25 => ?_)
      · exact absurd h25 (by decide) --dead
      · refine ri_iconst C dX4_count_28 kc_i0 ?_
        exact ri_iret C hQ dX4_count_29 (by first | rfl | exact kx_b_nar _) (Nat.le_of_ble_eq_true rfl) (Nat.le_of_ble_eq_true rfl) (by simp only [an_count, an_c, c1, Bool.and_true, Bool.and_false, Bool.true_and, cond_true, cond_false]; exact ⟨by first | rfl | trivial, by first | assumption | simp only [*, kx_up_u, mo_z_z]⟩)
  · obtain ⟨k1, hk1, rfl⟩ := mx_ix_t c1
    have nk1 : mx_n (nI k1) = k1 := mx_n_nI (by omega)
    refine ri_callS C km_X4_inRange q3071 dX4_count_10 (mt_X4_inRange htr) rfl rfl ⟨⟨(Nat.le_of_ble_eq_true rfl), (Nat.le_of_ble_eq_true rfl)⟩, (Nat.le_of_ble_eq_true rfl), (Nat.le_of_ble_eq_true rfl), (Nat.le_of_ble_eq_true rfl)⟩ (fun v10 s10 h10 => ?_) (fun _ _ _ h => h.elim)
    obtain ⟨rfl, rfl⟩ := h10
    rw [mx_ix_0 (by decide), c1]
    first | refine ri_if_neB C 20 dX4_count_13 rfl (fun h13 => ?_) (fun h13 => ?_) | refine ri_if_neN C 20 dX4_count_13 rfl (by omega) (fun h13 => ?_) (fun h13 => ?_) | refine ri_if_ne C 20 dX4_count_13 rfl (fun h13 => ?_) (fun h13 => ?_)
    · refine ri_iconst C dX4_count_20 kc_i0 ?_
      refine ri_iconst C dX4_count_21 kc_i1 ?_
      refine ri_callV C km_X4_fails q3303 qs106 dX4_count_22 (mt_X4_fails htr (b := false) (by first | assumption | (repeat (first | assumption | exact kx_rs (by assumption) | exact kx_ne2 (by omega) | exact kx_ne1 (by omega) | refine kx_ro (by assumption) ?_ ?_ | exact kx_rs rfl | refine kx_ro rfl ?_ ?_)))) rfl rfl (kx_rcN C (by first | assumption | (repeat (first | assumption | exact kx_rs (by assumption) | exact kx_ne2 (by omega) | exact kx_ne1 (by omega) | refine kx_ro (by assumption) ?_ ?_ | exact kx_rs rfl | refine kx_ro rfl ?_ ?_))) rfl) ⟨⟨(Nat.le_of_ble_eq_true rfl), (Nat.le_of_ble_eq_true rfl)⟩, (Nat.le_of_ble_eq_true rfl), (Nat.le_of_ble_eq_true rfl), (Nat.le_of_ble_eq_true rfl)⟩ (fun v22 s22 h22 => ?_) (fun _ _ _ h => h.elim)
      obtain ⟨rfl, e22⟩ := h22
      rw [cond_false] at e22
      subst e22
      first | refine ri_if_eqB C 30 dX4_count_25 rfl (fun h25 => ?_) (fun h25 => ?_) | refine ri_if_eqN C 30 dX4_count_25 rfl (by omega) (fun h25 => ?_) (fun h25 => ?_) | refine ri_if_eq C 30 dX4_count_25 rfl (fun h25 => ?_) (fun h25 => ?_)
      · refine ri_iload_n C dX4_count_30 rfl ?_
        by_cases hs31_1 : k1 = 1
        · subst hs31_1
          refine ri_tabIn C 1 (57) 88 dX4_count_31 (by decide) (by decide) rfl rfl ?_
          first | refine ri_aload_n C dX4_count_88 rfl ?_ | refine ri_aload_nQ C dX4_count_88 rfl ?_ | refine ri_aload_nN C dX4_count_88 rfl ?_
          refine ri_callV C km_X4_liveMany q3279 qs103 dX4_count_89 (mt_X4_liveMany htr (by first | assumption | (repeat (first | assumption | exact kx_rs (by assumption) | exact kx_ne2 (by omega) | exact kx_ne1 (by omega) | refine kx_ro (by assumption) ?_ ?_ | exact kx_rs rfl | refine kx_ro rfl ?_ ?_))) (by first | assumption | (repeat (first | assumption | exact kx_rs (by assumption) | exact kx_ne2 (by omega) | exact kx_ne1 (by omega) | refine kx_ro (by assumption) ?_ ?_ | exact kx_rs rfl | refine kx_ro rfl ?_ ?_))) hu) rfl rfl (kx_rcN C (by first | assumption | (repeat (first | assumption | exact kx_rs (by assumption) | exact kx_ne2 (by omega) | exact kx_ne1 (by omega) | refine kx_ro (by assumption) ?_ ?_ | exact kx_rs rfl | refine kx_ro rfl ?_ ?_))) rfl) ⟨⟨(Nat.le_of_ble_eq_true rfl), (Nat.le_of_ble_eq_true rfl)⟩, (Nat.le_of_ble_eq_true rfl), (Nat.le_of_ble_eq_true rfl), (Nat.le_of_ble_eq_true rfl)⟩ (fun v89 s89 h89 => ?_) (fun _ _ _ h => h.elim)
          obtain ⟨rfl, rfl⟩ := h89
          exact ri_iret C hQ dX4_count_92 (by first | rfl | exact kx_b_nar _) (Nat.le_of_ble_eq_true rfl) (Nat.le_of_ble_eq_true rfl) (by simp only [an_count, an_c, c1, nk1, an_cv, Bool.and_true, Bool.and_false, Bool.true_and, cond_true, cond_false]; exact ⟨by first | rfl | trivial, by first | assumption | simp only [*, kx_up_u, mo_z_z]⟩)
        by_cases hs31_2 : k1 = 2
        · subst hs31_2
          refine ri_tabIn C 2 (104) 135 dX4_count_31 (by decide) (by decide) rfl rfl ?_
          first | refine ri_aload_n C dX4_count_135 rfl ?_ | refine ri_aload_nQ C dX4_count_135 rfl ?_ | refine ri_aload_nN C dX4_count_135 rfl ?_
          refine ri_getf C dX4_count_136 fr_q2970_3 (by first | assumption | (repeat (first | assumption | exact kx_rs (by assumption) | exact kx_ne2 (by omega) | exact kx_ne1 (by omega) | refine kx_ro (by assumption) ?_ ?_ | exact kx_rs rfl | refine kx_ro rfl ?_ ?_))) (by rfl) ?_
          refine ri_iload_n C dX4_count_139 rfl ?_
          first | refine ri_ialoadN C dX4_count_140 (by first | assumption | (repeat (first | assumption | exact kx_rs (by assumption) | exact kx_ne2 (by omega) | exact kx_ne1 (by omega) | refine kx_ro (by assumption) ?_ ?_ | exact kx_rs rfl | refine kx_ro rfl ?_ ?_))) rfl (by omega) ?_ | refine ri_iaload C dX4_count_140 (by first | assumption | (repeat (first | assumption | exact kx_rs (by assumption) | exact kx_ne2 (by omega) | exact kx_ne1 (by omega) | refine kx_ro (by assumption) ?_ ?_ | exact kx_rs rfl | refine kx_ro rfl ?_ ?_))) rfl (by omega) ?_
          exact ri_iret C hQ dX4_count_141 rfl (Nat.le_of_ble_eq_true rfl) (Nat.le_of_ble_eq_true rfl) (by simp only [an_count, an_c, c1, nk1, an_cv, cond_true]; first | exact ⟨by first | rfl | trivial, by first | assumption | simp only [*, kx_up_u, mo_z_z]⟩ | (simp only [*, if_false]; exact ⟨by first | rfl | trivial, by first | assumption | simp only [*, kx_up_u, mo_z_z]⟩))
        by_cases hs31_3 : k1 = 3
        · subst hs31_3
          refine ri_tabIn C 3 (62) 93 dX4_count_31 (by decide) (by decide) rfl rfl ?_
          first | refine ri_aload_n C dX4_count_93 rfl ?_ | refine ri_aload_nQ C dX4_count_93 rfl ?_ | refine ri_aload_nN C dX4_count_93 rfl ?_
          first | refine ri_aload_n C dX4_count_94 rfl ?_ | refine ri_aload_nQ C dX4_count_94 rfl ?_ | refine ri_aload_nN C dX4_count_94 rfl ?_
          refine ri_getf C dX4_count_95 fr_q2970_3 (by first | assumption | (repeat (first | assumption | exact kx_rs (by assumption) | exact kx_ne2 (by omega) | exact kx_ne1 (by omega) | refine kx_ro (by assumption) ?_ ?_ | exact kx_rs rfl | refine kx_ro rfl ?_ ?_))) (by rfl) ?_
          refine ri_iconst C dX4_count_98 kc_i2 ?_
          first | refine ri_ialoadN C dX4_count_99 (by first | assumption | (repeat (first | assumption | exact kx_rs (by assumption) | exact kx_ne2 (by omega) | exact kx_ne1 (by omega) | refine kx_ro (by assumption) ?_ ?_ | exact kx_rs rfl | refine kx_ro rfl ?_ ?_))) rfl (by omega) ?_ | refine ri_iaload C dX4_count_99 (by first | assumption | (repeat (first | assumption | exact kx_rs (by assumption) | exact kx_ne2 (by omega) | exact kx_ne1 (by omega) | refine kx_ro (by assumption) ?_ ?_ | exact kx_rs rfl | refine kx_ro rfl ?_ ?_))) rfl (by omega) ?_
          refine ri_callV C km_X4_monthOf q3205 qs88 dX4_count_100 (mt_X4_monthOf htr (by omega)) rfl rfl (kx_rcN C (by first | assumption | (repeat (first | assumption | exact kx_rs (by assumption) | exact kx_ne2 (by omega) | exact kx_ne1 (by omega) | refine kx_ro (by assumption) ?_ ?_ | exact kx_rs rfl | refine kx_ro rfl ?_ ?_))) rfl) ⟨⟨(Nat.le_of_ble_eq_true rfl), (Nat.le_of_ble_eq_true rfl)⟩, (Nat.le_of_ble_eq_true rfl), (Nat.le_of_ble_eq_true rfl), (Nat.le_of_ble_eq_true rfl)⟩ (fun v100 s100 h100 => ?_) (fun _ _ _ h => h.elim)
          obtain ⟨rfl, rfl⟩ := h100
          exact ri_iret C hQ dX4_count_103 (by first | rfl | exact kx_b_nar _) (Nat.le_of_ble_eq_true rfl) (Nat.le_of_ble_eq_true rfl) (by simp only [an_count, an_c, c1, nk1, an_cv, Bool.and_true, Bool.and_false, Bool.true_and, cond_true, cond_false]; exact ⟨by first | rfl | trivial, by first | assumption | simp only [*, kx_up_u, mo_z_z]⟩)
        by_cases hs31_4 : k1 = 4
        · subst hs31_4
          refine ri_tabIn C 4 (73) 104 dX4_count_31 (by decide) (by decide) rfl rfl ?_
          first | refine ri_aload_n C dX4_count_104 rfl ?_ | refine ri_aload_nQ C dX4_count_104 rfl ?_ | refine ri_aload_nN C dX4_count_104 rfl ?_
          refine ri_getf C dX4_count_105 fr_q2970_3 (by first | assumption | (repeat (first | assumption | exact kx_rs (by assumption) | exact kx_ne2 (by omega) | exact kx_ne1 (by omega) | refine kx_ro (by assumption) ?_ ?_ | exact kx_rs rfl | refine kx_ro rfl ?_ ?_))) (by rfl) ?_
          refine ri_iconst C dX4_count_108 kc_i2 ?_
          first | refine ri_ialoadN C dX4_count_109 (by first | assumption | (repeat (first | assumption | exact kx_rs (by assumption) | exact kx_ne2 (by omega) | exact kx_ne1 (by omega) | refine kx_ro (by assumption) ?_ ?_ | exact kx_rs rfl | refine kx_ro rfl ?_ ?_))) rfl (by omega) ?_ | refine ri_iaload C dX4_count_109 (by first | assumption | (repeat (first | assumption | exact kx_rs (by assumption) | exact kx_ne2 (by omega) | exact kx_ne1 (by omega) | refine kx_ro (by assumption) ?_ ?_ | exact kx_rs rfl | refine kx_ro rfl ?_ ?_))) rfl (by omega) ?_
          refine ri_sipush C dX4_count_110 kc_s360 ?_
          first | refine ri_idivN C dX4_count_113 (by omega) (by omega) (by omega) ?_ | refine ri_idiv C dX4_count_113 (by decide) ?_
          exact ri_iret C hQ dX4_count_114 (by first | rfl | exact kx_b_nar _) (Nat.le_of_ble_eq_true rfl) (Nat.le_of_ble_eq_true rfl) (by simp only [an_count, an_c, c1, nk1, an_cv, Bool.and_true, Bool.and_false, Bool.true_and, cond_true, cond_false]; exact ⟨by first | rfl | trivial, by first | assumption | simp only [*, kx_up_u, mo_z_z]⟩)
        by_cases hs31_5 : k1 = 5
        · subst hs31_5
          refine ri_tabIn C 5 (104) 135 dX4_count_31 (by decide) (by decide) rfl rfl ?_
          first | refine ri_aload_n C dX4_count_135 rfl ?_ | refine ri_aload_nQ C dX4_count_135 rfl ?_ | refine ri_aload_nN C dX4_count_135 rfl ?_
          refine ri_getf C dX4_count_136 fr_q2970_3 (by first | assumption | (repeat (first | assumption | exact kx_rs (by assumption) | exact kx_ne2 (by omega) | exact kx_ne1 (by omega) | refine kx_ro (by assumption) ?_ ?_ | exact kx_rs rfl | refine kx_ro rfl ?_ ?_))) (by rfl) ?_
          refine ri_iload_n C dX4_count_139 rfl ?_
          first | refine ri_ialoadN C dX4_count_140 (by first | assumption | (repeat (first | assumption | exact kx_rs (by assumption) | exact kx_ne2 (by omega) | exact kx_ne1 (by omega) | refine kx_ro (by assumption) ?_ ?_ | exact kx_rs rfl | refine kx_ro rfl ?_ ?_))) rfl (by omega) ?_ | refine ri_iaload C dX4_count_140 (by first | assumption | (repeat (first | assumption | exact kx_rs (by assumption) | exact kx_ne2 (by omega) | exact kx_ne1 (by omega) | refine kx_ro (by assumption) ?_ ?_ | exact kx_rs rfl | refine kx_ro rfl ?_ ?_))) rfl (by omega) ?_
          exact ri_iret C hQ dX4_count_141 rfl (Nat.le_of_ble_eq_true rfl) (Nat.le_of_ble_eq_true rfl) (by simp only [an_count, an_c, c1, nk1, an_cv, cond_true]; first | exact ⟨by first | rfl | trivial, by first | assumption | simp only [*, kx_up_u, mo_z_z]⟩ | (simp only [*, if_false]; exact ⟨by first | rfl | trivial, by first | assumption | simp only [*, kx_up_u, mo_z_z]⟩))
        by_cases hs31_6 : k1 = 6
        · subst hs31_6
          refine ri_tabIn C 6 (104) 135 dX4_count_31 (by decide) (by decide) rfl rfl ?_
          first | refine ri_aload_n C dX4_count_135 rfl ?_ | refine ri_aload_nQ C dX4_count_135 rfl ?_ | refine ri_aload_nN C dX4_count_135 rfl ?_
          refine ri_getf C dX4_count_136 fr_q2970_3 (by first | assumption | (repeat (first | assumption | exact kx_rs (by assumption) | exact kx_ne2 (by omega) | exact kx_ne1 (by omega) | refine kx_ro (by assumption) ?_ ?_ | exact kx_rs rfl | refine kx_ro rfl ?_ ?_))) (by rfl) ?_
          refine ri_iload_n C dX4_count_139 rfl ?_
          first | refine ri_ialoadN C dX4_count_140 (by first | assumption | (repeat (first | assumption | exact kx_rs (by assumption) | exact kx_ne2 (by omega) | exact kx_ne1 (by omega) | refine kx_ro (by assumption) ?_ ?_ | exact kx_rs rfl | refine kx_ro rfl ?_ ?_))) rfl (by omega) ?_ | refine ri_iaload C dX4_count_140 (by first | assumption | (repeat (first | assumption | exact kx_rs (by assumption) | exact kx_ne2 (by omega) | exact kx_ne1 (by omega) | refine kx_ro (by assumption) ?_ ?_ | exact kx_rs rfl | refine kx_ro rfl ?_ ?_))) rfl (by omega) ?_
          exact ri_iret C hQ dX4_count_141 rfl (Nat.le_of_ble_eq_true rfl) (Nat.le_of_ble_eq_true rfl) (by simp only [an_count, an_c, c1, nk1, an_cv, cond_true]; first | exact ⟨by first | rfl | trivial, by first | assumption | simp only [*, kx_up_u, mo_z_z]⟩ | (simp only [*, if_false]; exact ⟨by first | rfl | trivial, by first | assumption | simp only [*, kx_up_u, mo_z_z]⟩))
        by_cases hs31_7 : k1 = 7
        · subst hs31_7
          refine ri_tabIn C 7 (104) 135 dX4_count_31 (by decide) (by decide) rfl rfl ?_
          first | refine ri_aload_n C dX4_count_135 rfl ?_ | refine ri_aload_nQ C dX4_count_135 rfl ?_ | refine ri_aload_nN C dX4_count_135 rfl ?_
          refine ri_getf C dX4_count_136 fr_q2970_3 (by first | assumption | (repeat (first | assumption | exact kx_rs (by assumption) | exact kx_ne2 (by omega) | exact kx_ne1 (by omega) | refine kx_ro (by assumption) ?_ ?_ | exact kx_rs rfl | refine kx_ro rfl ?_ ?_))) (by rfl) ?_
          refine ri_iload_n C dX4_count_139 rfl ?_
          first | refine ri_ialoadN C dX4_count_140 (by first | assumption | (repeat (first | assumption | exact kx_rs (by assumption) | exact kx_ne2 (by omega) | exact kx_ne1 (by omega) | refine kx_ro (by assumption) ?_ ?_ | exact kx_rs rfl | refine kx_ro rfl ?_ ?_))) rfl (by omega) ?_ | refine ri_iaload C dX4_count_140 (by first | assumption | (repeat (first | assumption | exact kx_rs (by assumption) | exact kx_ne2 (by omega) | exact kx_ne1 (by omega) | refine kx_ro (by assumption) ?_ ?_ | exact kx_rs rfl | refine kx_ro rfl ?_ ?_))) rfl (by omega) ?_
          exact ri_iret C hQ dX4_count_141 rfl (Nat.le_of_ble_eq_true rfl) (Nat.le_of_ble_eq_true rfl) (by simp only [an_count, an_c, c1, nk1, an_cv, cond_true]; first | exact ⟨by first | rfl | trivial, by first | assumption | simp only [*, kx_up_u, mo_z_z]⟩ | (simp only [*, if_false]; exact ⟨by first | rfl | trivial, by first | assumption | simp only [*, kx_up_u, mo_z_z]⟩))
        by_cases hs31_8 : k1 = 8
        · subst hs31_8
          refine ri_tabIn C 8 (84) 115 dX4_count_31 (by decide) (by decide) rfl rfl ?_
          first | refine ri_aload_n C dX4_count_115 rfl ?_ | refine ri_aload_nQ C dX4_count_115 rfl ?_ | refine ri_aload_nN C dX4_count_115 rfl ?_
          refine ri_callV C km_X4_allWeights q3307 qs107 dX4_count_116 (mt_X4_allWeights htr (by first | assumption | (repeat (first | assumption | exact kx_rs (by assumption) | exact kx_ne2 (by omega) | exact kx_ne1 (by omega) | refine kx_ro (by assumption) ?_ ?_ | exact kx_rs rfl | refine kx_ro rfl ?_ ?_))) (by first | assumption | (repeat (first | assumption | exact kx_rs (by assumption) | exact kx_ne2 (by omega) | exact kx_ne1 (by omega) | refine kx_ro (by assumption) ?_ ?_ | exact kx_rs rfl | refine kx_ro rfl ?_ ?_))) hu) rfl rfl (kx_rcN C (by first | assumption | (repeat (first | assumption | exact kx_rs (by assumption) | exact kx_ne2 (by omega) | exact kx_ne1 (by omega) | refine kx_ro (by assumption) ?_ ?_ | exact kx_rs rfl | refine kx_ro rfl ?_ ?_))) rfl) ⟨⟨(Nat.le_of_ble_eq_true rfl), (Nat.le_of_ble_eq_true rfl)⟩, (Nat.le_of_ble_eq_true rfl), (Nat.le_of_ble_eq_true rfl), (Nat.le_of_ble_eq_true rfl)⟩ (fun v116 s116 h116 => ?_) (fun _ _ _ h => h.elim)
          obtain ⟨rfl, rfl⟩ := h116
          exact ri_iret C hQ dX4_count_119 (by first | rfl | exact kx_b_nar _) (Nat.le_of_ble_eq_true rfl) (Nat.le_of_ble_eq_true rfl) (by simp only [an_count, an_c, c1, nk1, an_cv, Bool.and_true, Bool.and_false, Bool.true_and, cond_true, cond_false]; exact ⟨by first | rfl | trivial, by first | assumption | simp only [*, kx_up_u, mo_z_z]⟩)
        by_cases hs31_9 : k1 = 9
        · subst hs31_9
          refine ri_tabIn C 9 (89) 120 dX4_count_31 (by decide) (by decide) rfl rfl ?_
          first | refine ri_aload_n C dX4_count_120 rfl ?_ | refine ri_aload_nQ C dX4_count_120 rfl ?_ | refine ri_aload_nN C dX4_count_120 rfl ?_
          refine ri_callV C km_X4_allClashes q3311 qs108 dX4_count_121 (mt_X4_allClashes htr (by first | assumption | (repeat (first | assumption | exact kx_rs (by assumption) | exact kx_ne2 (by omega) | exact kx_ne1 (by omega) | refine kx_ro (by assumption) ?_ ?_ | exact kx_rs rfl | refine kx_ro rfl ?_ ?_))) (by first | assumption | (repeat (first | assumption | exact kx_rs (by assumption) | exact kx_ne2 (by omega) | exact kx_ne1 (by omega) | refine kx_ro (by assumption) ?_ ?_ | exact kx_rs rfl | refine kx_ro rfl ?_ ?_))) hu) rfl rfl (kx_rcN C (by first | assumption | (repeat (first | assumption | exact kx_rs (by assumption) | exact kx_ne2 (by omega) | exact kx_ne1 (by omega) | refine kx_ro (by assumption) ?_ ?_ | exact kx_rs rfl | refine kx_ro rfl ?_ ?_))) rfl) ⟨⟨(Nat.le_of_ble_eq_true rfl), (Nat.le_of_ble_eq_true rfl)⟩, (Nat.le_of_ble_eq_true rfl), (Nat.le_of_ble_eq_true rfl), (Nat.le_of_ble_eq_true rfl)⟩ (fun v121 s121 h121 => ?_) (fun _ _ _ h => h.elim)
          obtain ⟨rfl, rfl⟩ := h121
          exact ri_iret C hQ dX4_count_124 (by first | rfl | exact kx_b_nar _) (Nat.le_of_ble_eq_true rfl) (Nat.le_of_ble_eq_true rfl) (by simp only [an_count, an_c, c1, nk1, an_cv, Bool.and_true, Bool.and_false, Bool.true_and, cond_true, cond_false]; exact ⟨by first | rfl | trivial, by first | assumption | simp only [*, kx_up_u, mo_z_z]⟩)
        by_cases hs31_10 : k1 = 10
        · subst hs31_10
          refine ri_tabIn C 10 (94) 125 dX4_count_31 (by decide) (by decide) rfl rfl ?_
          first | refine ri_aload_n C dX4_count_125 rfl ?_ | refine ri_aload_nQ C dX4_count_125 rfl ?_ | refine ri_aload_nN C dX4_count_125 rfl ?_
          refine ri_callV C km_X4_silent q3326 qs111 dX4_count_126 (mt_X4_silent htr (by first | assumption | (repeat (first | assumption | exact kx_rs (by assumption) | exact kx_ne2 (by omega) | exact kx_ne1 (by omega) | refine kx_ro (by assumption) ?_ ?_ | exact kx_rs rfl | refine kx_ro rfl ?_ ?_))) (by first | assumption | (repeat (first | assumption | exact kx_rs (by assumption) | exact kx_ne2 (by omega) | exact kx_ne1 (by omega) | refine kx_ro (by assumption) ?_ ?_ | exact kx_rs rfl | refine kx_ro rfl ?_ ?_))) hu) rfl rfl (kx_rcN C (by first | assumption | (repeat (first | assumption | exact kx_rs (by assumption) | exact kx_ne2 (by omega) | exact kx_ne1 (by omega) | refine kx_ro (by assumption) ?_ ?_ | exact kx_rs rfl | refine kx_ro rfl ?_ ?_))) rfl) ⟨⟨(Nat.le_of_ble_eq_true rfl), (Nat.le_of_ble_eq_true rfl)⟩, (Nat.le_of_ble_eq_true rfl), (Nat.le_of_ble_eq_true rfl), (Nat.le_of_ble_eq_true rfl)⟩ (fun v126 s126 h126 => ?_) (fun _ _ _ h => h.elim)
          obtain ⟨rfl, rfl⟩ := h126
          exact ri_iret C hQ dX4_count_129 (by first | rfl | exact kx_b_nar _) (Nat.le_of_ble_eq_true rfl) (Nat.le_of_ble_eq_true rfl) (by simp only [an_count, an_c, c1, nk1, an_cv, Bool.and_true, Bool.and_false, Bool.true_and, cond_true, cond_false]; exact ⟨by first | rfl | trivial, by first | assumption | simp only [*, kx_up_u, mo_z_z]⟩)
        by_cases hs31_11 : k1 = 11
        · subst hs31_11
          refine ri_tabIn C 11 (99) 130 dX4_count_31 (by decide) (by decide) rfl rfl ?_
          first | refine ri_aload_n C dX4_count_130 rfl ?_ | refine ri_aload_nQ C dX4_count_130 rfl ?_ | refine ri_aload_nN C dX4_count_130 rfl ?_
          refine ri_getf C dX4_count_131 fr_q2977_3 (by first | assumption | (repeat (first | assumption | exact kx_rs (by assumption) | exact kx_ne2 (by omega) | exact kx_ne1 (by omega) | refine kx_ro (by assumption) ?_ ?_ | exact kx_rs rfl | refine kx_ro rfl ?_ ?_))) (by rfl) ?_
          exact ri_iret C hQ dX4_count_134 (by first | rfl | exact kx_b_nar _) (Nat.le_of_ble_eq_true rfl) (Nat.le_of_ble_eq_true rfl) (by simp only [an_count, an_c, c1, nk1, an_cv, Bool.and_true, Bool.and_false, Bool.true_and, cond_true, cond_false]; exact ⟨by first | rfl | trivial, by first | assumption | simp only [*, kx_up_u, mo_z_z]⟩)
        refine ri_tabOut C 135 dX4_count_31 (by rw [nI_toInt (by omega)]; omega) rfl ?_
        first | refine ri_aload_n C dX4_count_135 rfl ?_ | refine ri_aload_nQ C dX4_count_135 rfl ?_ | refine ri_aload_nN C dX4_count_135 rfl ?_
        refine ri_getf C dX4_count_136 fr_q2970_3 (by first | assumption | (repeat (first | assumption | exact kx_rs (by assumption) | exact kx_ne2 (by omega) | exact kx_ne1 (by omega) | refine kx_ro (by assumption) ?_ ?_ | exact kx_rs rfl | refine kx_ro rfl ?_ ?_))) (by rfl) ?_
        refine ri_iload_n C dX4_count_139 rfl ?_
        first | refine ri_ialoadN C dX4_count_140 (by first | assumption | (repeat (first | assumption | exact kx_rs (by assumption) | exact kx_ne2 (by omega) | exact kx_ne1 (by omega) | refine kx_ro (by assumption) ?_ ?_ | exact kx_rs rfl | refine kx_ro rfl ?_ ?_))) rfl (by omega) ?_ | refine ri_iaload C dX4_count_140 (by first | assumption | (repeat (first | assumption | exact kx_rs (by assumption) | exact kx_ne2 (by omega) | exact kx_ne1 (by omega) | refine kx_ro (by assumption) ?_ ?_ | exact kx_rs rfl | refine kx_ro rfl ?_ ?_))) rfl (by omega) ?_
        exact ri_iret C hQ dX4_count_141 rfl (Nat.le_of_ble_eq_true rfl) (Nat.le_of_ble_eq_true rfl) (by simp only [an_count, an_c, c1, nk1, an_cv, cond_true]; first | exact ⟨by first | rfl | trivial, by first | assumption | simp only [*, kx_up_u, mo_z_z]⟩ | (simp only [*, if_false]; exact ⟨by first | rfl | trivial, by first | assumption | simp only [*, kx_up_u, mo_z_z]⟩))
      · exact absurd h25 (by decide) --dead
    · exact absurd h13 (by decide) --dead
set_option maxHeartbeats 1000000 in
theorem mt_X4_proverb {l : Launch} {G : kx_G} (htr : l.stackTraces = false) {σ : kx_H} {mo : Nat} {ad : Nat → Nat} {z : Nat → Int32} {u : Nat → Nat} {x y : Int32} (h0 : σ (1, 0) = some (mo, .inr (3, mo_L ad z))) (hw : σ (1, 1) = some (ad 0, kx_ai G 1417 (mx_w u))) (hu : mx_ok u) : kx_SP l G yX4_proverb (ws_ yX4_proverb cX4_proverb 3 (some .int)) 7 0 0 [.ref mo, .int x, .int y] σ (fun v τ => v = some (.int (an_proverb u x y).2) ∧ τ = kx_up σ (1, 0) (mo, .inr (3, mo_L ad (mo_z z 9 (nI (an_proverb u x y).1))))) kx_nx := by
  refine kx_body htr (by decide +kernel) (own := "RoseProverbsModel") (nm := "proverb") rfl rfl (Nat.le_of_ble_eq_true rfl) ?_
  intro p e s m args below meth c Q C hQ
  have gn := hu.1
  first | refine ri_aload_n C dX4_proverb_0 rfl ?_ | refine ri_aload_nQ C dX4_proverb_0 rfl ?_ | refine ri_aload_nN C dX4_proverb_0 rfl ?_
  refine ri_iconst C dX4_proverb_1 kc_i0 ?_
  refine ri_putf C dX4_proverb_2 fd_q2979_3 (fun h => nomatch h) (by first | assumption | (repeat (first | assumption | exact kx_rs (by assumption) | exact kx_ne2 (by omega) | exact kx_ne1 (by omega) | refine kx_ro (by assumption) ?_ ?_ | exact kx_rs rfl | refine kx_ro rfl ?_ ?_))) (Nat.le_of_ble_eq_true rfl) (by rfl) (by rfl) mo_set9 (fun s2 e2 => ?_)
  first | refine ri_aload_n C dX4_proverb_5 rfl ?_ | refine ri_aload_nQ C dX4_proverb_5 rfl ?_ | refine ri_aload_nN C dX4_proverb_5 rfl ?_
  refine ri_iload_n C dX4_proverb_6 rfl ?_
  refine ri_callV C km_X4_noProverb q3342 qs113 dX4_proverb_7 (mt_X4_noProverb htr (by first | assumption | (repeat (first | assumption | exact kx_rs (by assumption) | exact kx_ne2 (by omega) | exact kx_ne1 (by omega) | refine kx_ro (by assumption) ?_ ?_ | exact kx_rs rfl | refine kx_ro rfl ?_ ?_))) (by first | assumption | (repeat (first | assumption | exact kx_rs (by assumption) | exact kx_ne2 (by omega) | exact kx_ne1 (by omega) | refine kx_ro (by assumption) ?_ ?_ | exact kx_rs rfl | refine kx_ro rfl ?_ ?_))) (by omega)) rfl rfl (kx_rcN C (by first | assumption | (repeat (first | assumption | exact kx_rs (by assumption) | exact kx_ne2 (by omega) | exact kx_ne1 (by omega) | refine kx_ro (by assumption) ?_ ?_ | exact kx_rs rfl | refine kx_ro rfl ?_ ?_))) rfl) ⟨⟨(Nat.le_of_ble_eq_true rfl), (Nat.le_of_ble_eq_true rfl)⟩, (Nat.le_of_ble_eq_true rfl), (Nat.le_of_ble_eq_true rfl), (Nat.le_of_ble_eq_true rfl)⟩ (fun v7 s7 h7 => ?_) (fun _ _ _ h => h.elim)
  obtain ⟨rfl, e7⟩ := h7
  first | refine ri_if_neB C 36 dX4_proverb_10 rfl (fun h10 => ?_) (fun h10 => ?_) | refine ri_if_neN C 36 dX4_proverb_10 rfl (by omega) (fun h10 => ?_) (fun h10 => ?_) | refine ri_if_ne C 36 dX4_proverb_10 rfl (fun h10 => ?_) (fun h10 => ?_)
  · have c1 : mx_ix x (u 0) = false := kx_bn_t h10
    rw [c1, cond_false] at e7
    refine ri_iconst C dX4_proverb_36 kc_i0 ?_
    exact ri_iret C hQ dX4_proverb_37 (by first | rfl | exact kx_b_nar _) (Nat.le_of_ble_eq_true rfl) (Nat.le_of_ble_eq_true rfl) (by simp only [an_proverb, an_c, c1, Bool.and_true, Bool.and_false, Bool.true_and, cond_true, cond_false]; exact ⟨by first | rfl | trivial, by first | assumption | simp only [*, kx_up_u, mo_z_z]⟩)
  · have c1 : mx_ix x (u 0) = true := kx_bn_f h10
    rw [c1, cond_true] at e7
    subst e7
    obtain ⟨k1, hk1, rfl⟩ := mx_ix_t c1
    have nk1 : mx_n (nI k1) = k1 := mx_n_nI (by omega)
    have gk := hu.2.1 k1 hk1
    first | refine ri_aload_n C dX4_proverb_13 rfl ?_ | refine ri_aload_nQ C dX4_proverb_13 rfl ?_ | refine ri_aload_nN C dX4_proverb_13 rfl ?_
    refine ri_iload_n C dX4_proverb_14 rfl ?_
    refine ri_iconst C dX4_proverb_15 kc_i0 ?_
    refine ri_bipush C dX4_proverb_16 kc_b12 ?_
    cases c2 : mx_ix y 13
    · refine ri_callS C km_X4_inRange q3071 dX4_proverb_18 (mt_X4_inRange htr) rfl rfl ⟨⟨(Nat.le_of_ble_eq_true rfl), (Nat.le_of_ble_eq_true rfl)⟩, (Nat.le_of_ble_eq_true rfl), (Nat.le_of_ble_eq_true rfl), (Nat.le_of_ble_eq_true rfl)⟩ (fun v18 s18 h18 => ?_) (fun _ _ _ h => h.elim)
      obtain ⟨rfl, rfl⟩ := h18
      rw [mx_ix_0 (by decide), c2]
      first | refine ri_if_neB C 28 dX4_proverb_21 rfl (fun h21 => ?_) (fun h21 => ?_) | refine ri_if_neN C 28 dX4_proverb_21 rfl (by omega) (fun h21 => ?_) (fun h21 => ?_) | refine ri_if_ne C 28 dX4_proverb_21 rfl (fun h21 => ?_) (fun h21 => ?_)
      · exact absurd h21 (by decide) --dead
      · refine ri_iconst C dX4_proverb_24 kc_i1 ?_
        refine ri_goto C 29 dX4_proverb_25 rfl ?_
        refine ri_iconst C dX4_proverb_29 kc_i2 ?_
        refine ri_callV C km_X4_fails q3303 qs106 dX4_proverb_30 (mt_X4_fails htr (b := true) (by first | assumption | (repeat (first | assumption | exact kx_rs (by assumption) | exact kx_ne2 (by omega) | exact kx_ne1 (by omega) | refine kx_ro (by assumption) ?_ ?_ | exact kx_rs rfl | refine kx_ro rfl ?_ ?_)))) rfl rfl (kx_rcN C (by first | assumption | (repeat (first | assumption | exact kx_rs (by assumption) | exact kx_ne2 (by omega) | exact kx_ne1 (by omega) | refine kx_ro (by assumption) ?_ ?_ | exact kx_rs rfl | refine kx_ro rfl ?_ ?_))) rfl) ⟨⟨(Nat.le_of_ble_eq_true rfl), (Nat.le_of_ble_eq_true rfl)⟩, (Nat.le_of_ble_eq_true rfl), (Nat.le_of_ble_eq_true rfl), (Nat.le_of_ble_eq_true rfl)⟩ (fun v30 s30 h30 => ?_) (fun _ _ _ h => h.elim)
        obtain ⟨rfl, e30⟩ := h30
        rw [cond_true] at e30
        first | refine ri_if_eqB C 38 dX4_proverb_33 rfl (fun h33 => ?_) (fun h33 => ?_) | refine ri_if_eqN C 38 dX4_proverb_33 rfl (by omega) (fun h33 => ?_) (fun h33 => ?_) | refine ri_if_eq C 38 dX4_proverb_33 rfl (fun h33 => ?_) (fun h33 => ?_)
        · exact absurd h33 (by decide) --dead
        · refine ri_iconst C dX4_proverb_36 kc_i0 ?_
          exact ri_iret C hQ dX4_proverb_37 (by first | rfl | exact kx_b_nar _) (Nat.le_of_ble_eq_true rfl) (Nat.le_of_ble_eq_true rfl) (by simp only [an_proverb, an_c, c1, c2, nk1, Bool.and_true, Bool.and_false, Bool.true_and, cond_true, cond_false]; exact ⟨by first | rfl | trivial, by first | assumption | simp only [*, kx_up_u, mo_z_z]⟩)
    · obtain ⟨k2, hk2, rfl⟩ := mx_ix_t c2
      have nk2 : mx_n (nI k2) = k2 := mx_n_nI (by omega)
      refine ri_callS C km_X4_inRange q3071 dX4_proverb_18 (mt_X4_inRange htr) rfl rfl ⟨⟨(Nat.le_of_ble_eq_true rfl), (Nat.le_of_ble_eq_true rfl)⟩, (Nat.le_of_ble_eq_true rfl), (Nat.le_of_ble_eq_true rfl), (Nat.le_of_ble_eq_true rfl)⟩ (fun v18 s18 h18 => ?_) (fun _ _ _ h => h.elim)
      obtain ⟨rfl, rfl⟩ := h18
      rw [mx_ix_0 (by decide), c2]
      first | refine ri_if_neB C 28 dX4_proverb_21 rfl (fun h21 => ?_) (fun h21 => ?_) | refine ri_if_neN C 28 dX4_proverb_21 rfl (by omega) (fun h21 => ?_) (fun h21 => ?_) | refine ri_if_ne C 28 dX4_proverb_21 rfl (fun h21 => ?_) (fun h21 => ?_)
      · refine ri_iconst C dX4_proverb_28 kc_i0 ?_
        refine ri_iconst C dX4_proverb_29 kc_i2 ?_
        refine ri_callV C km_X4_fails q3303 qs106 dX4_proverb_30 (mt_X4_fails htr (b := false) (by first | assumption | (repeat (first | assumption | exact kx_rs (by assumption) | exact kx_ne2 (by omega) | exact kx_ne1 (by omega) | refine kx_ro (by assumption) ?_ ?_ | exact kx_rs rfl | refine kx_ro rfl ?_ ?_)))) rfl rfl (kx_rcN C (by first | assumption | (repeat (first | assumption | exact kx_rs (by assumption) | exact kx_ne2 (by omega) | exact kx_ne1 (by omega) | refine kx_ro (by assumption) ?_ ?_ | exact kx_rs rfl | refine kx_ro rfl ?_ ?_))) rfl) ⟨⟨(Nat.le_of_ble_eq_true rfl), (Nat.le_of_ble_eq_true rfl)⟩, (Nat.le_of_ble_eq_true rfl), (Nat.le_of_ble_eq_true rfl), (Nat.le_of_ble_eq_true rfl)⟩ (fun v30 s30 h30 => ?_) (fun _ _ _ h => h.elim)
        obtain ⟨rfl, e30⟩ := h30
        rw [cond_false] at e30
        subst e30
        first | refine ri_if_eqB C 38 dX4_proverb_33 rfl (fun h33 => ?_) (fun h33 => ?_) | refine ri_if_eqN C 38 dX4_proverb_33 rfl (by omega) (fun h33 => ?_) (fun h33 => ?_) | refine ri_if_eq C 38 dX4_proverb_33 rfl (fun h33 => ?_) (fun h33 => ?_)
        · refine ri_iload_n C dX4_proverb_38 rfl ?_
          by_cases hs39_10 : k2 = 10
          · subst hs39_10
            refine ri_tabIn C 10 (25) 64 dX4_proverb_39 (by decide) (by decide) rfl rfl ?_
            first | refine ri_aload_n C dX4_proverb_64 rfl ?_ | refine ri_aload_nQ C dX4_proverb_64 rfl ?_ | refine ri_aload_nN C dX4_proverb_64 rfl ?_
            refine ri_iload_n C dX4_proverb_65 rfl ?_
            refine ri_iconst C dX4_proverb_66 kc_i0 ?_
            refine ri_callV C km_X4_of q3140 qs75 dX4_proverb_67 (mt_X4_of htr (by first | assumption | (repeat (first | assumption | exact kx_rs (by assumption) | exact kx_ne2 (by omega) | exact kx_ne1 (by omega) | refine kx_ro (by assumption) ?_ ?_ | exact kx_rs rfl | refine kx_ro rfl ?_ ?_))) (by first | assumption | (repeat (first | assumption | exact kx_rs (by assumption) | exact kx_ne2 (by omega) | exact kx_ne1 (by omega) | refine kx_ro (by assumption) ?_ ?_ | exact kx_rs rfl | refine kx_ro rfl ?_ ?_))) (by omega)) rfl rfl (kx_rcN C (by first | assumption | (repeat (first | assumption | exact kx_rs (by assumption) | exact kx_ne2 (by omega) | exact kx_ne1 (by omega) | refine kx_ro (by assumption) ?_ ?_ | exact kx_rs rfl | refine kx_ro rfl ?_ ?_))) rfl) ⟨⟨(Nat.le_of_ble_eq_true rfl), (Nat.le_of_ble_eq_true rfl)⟩, (Nat.le_of_ble_eq_true rfl), (Nat.le_of_ble_eq_true rfl), (Nat.le_of_ble_eq_true rfl)⟩ (fun v67 s67 h67 => ?_) (fun _ _ _ h => h.elim)
            obtain ⟨rfl, rfl⟩ := h67
            first | refine ri_aload_n C dX4_proverb_70 rfl ?_ | refine ri_aload_nQ C dX4_proverb_70 rfl ?_ | refine ri_aload_nN C dX4_proverb_70 rfl ?_
            refine ri_iload_n C dX4_proverb_71 rfl ?_
            refine ri_iconst C dX4_proverb_72 kc_i1 ?_
            refine ri_callV C km_X4_of q3140 qs75 dX4_proverb_73 (mt_X4_of htr (by first | assumption | (repeat (first | assumption | exact kx_rs (by assumption) | exact kx_ne2 (by omega) | exact kx_ne1 (by omega) | refine kx_ro (by assumption) ?_ ?_ | exact kx_rs rfl | refine kx_ro rfl ?_ ?_))) (by first | assumption | (repeat (first | assumption | exact kx_rs (by assumption) | exact kx_ne2 (by omega) | exact kx_ne1 (by omega) | refine kx_ro (by assumption) ?_ ?_ | exact kx_rs rfl | refine kx_ro rfl ?_ ?_))) (by omega)) rfl rfl (kx_rcN C (by first | assumption | (repeat (first | assumption | exact kx_rs (by assumption) | exact kx_ne2 (by omega) | exact kx_ne1 (by omega) | refine kx_ro (by assumption) ?_ ?_ | exact kx_rs rfl | refine kx_ro rfl ?_ ?_))) rfl) ⟨⟨(Nat.le_of_ble_eq_true rfl), (Nat.le_of_ble_eq_true rfl)⟩, (Nat.le_of_ble_eq_true rfl), (Nat.le_of_ble_eq_true rfl), (Nat.le_of_ble_eq_true rfl)⟩ (fun v73 s73 h73 => ?_) (fun _ _ _ h => h.elim)
            obtain ⟨rfl, rfl⟩ := h73
            refine ri_bipush C dX4_proverb_76 kc_b16 ?_
            refine ri_callS C km_X4_width q3235 dX4_proverb_78 (mt_X4_width htr (Or.inr rfl) gk.2.1 gk.1) rfl rfl ⟨⟨(Nat.le_of_ble_eq_true rfl), (Nat.le_of_ble_eq_true rfl)⟩, (Nat.le_of_ble_eq_true rfl), (Nat.le_of_ble_eq_true rfl), (Nat.le_of_ble_eq_true rfl)⟩ (fun v78 s78 h78 => ?_) (fun _ _ _ h => h.elim)
            obtain ⟨rfl, rfl⟩ := h78
            exact ri_iret C hQ dX4_proverb_81 (by first | rfl | exact kx_b_nar _) (Nat.le_of_ble_eq_true rfl) (Nat.le_of_ble_eq_true rfl) (by simp only [an_proverb, an_c, c1, c2, nk1, nk2, an_pv, Bool.and_true, Bool.and_false, Bool.true_and, cond_true, cond_false]; exact ⟨by first | rfl | trivial, by first | assumption | simp only [*, kx_up_u, mo_z_z]⟩)
          by_cases hs39_11 : k2 = 11
          · subst hs39_11
            refine ri_tabIn C 11 (43) 82 dX4_proverb_39 (by decide) (by decide) rfl rfl ?_
            first | refine ri_aload_n C dX4_proverb_82 rfl ?_ | refine ri_aload_nQ C dX4_proverb_82 rfl ?_ | refine ri_aload_nN C dX4_proverb_82 rfl ?_
            refine ri_iload_n C dX4_proverb_83 rfl ?_
            refine ri_iconst C dX4_proverb_84 kc_i2 ?_
            refine ri_callV C km_X4_of q3140 qs75 dX4_proverb_85 (mt_X4_of htr (by first | assumption | (repeat (first | assumption | exact kx_rs (by assumption) | exact kx_ne2 (by omega) | exact kx_ne1 (by omega) | refine kx_ro (by assumption) ?_ ?_ | exact kx_rs rfl | refine kx_ro rfl ?_ ?_))) (by first | assumption | (repeat (first | assumption | exact kx_rs (by assumption) | exact kx_ne2 (by omega) | exact kx_ne1 (by omega) | refine kx_ro (by assumption) ?_ ?_ | exact kx_rs rfl | refine kx_ro rfl ?_ ?_))) (by omega)) rfl rfl (kx_rcN C (by first | assumption | (repeat (first | assumption | exact kx_rs (by assumption) | exact kx_ne2 (by omega) | exact kx_ne1 (by omega) | refine kx_ro (by assumption) ?_ ?_ | exact kx_rs rfl | refine kx_ro rfl ?_ ?_))) rfl) ⟨⟨(Nat.le_of_ble_eq_true rfl), (Nat.le_of_ble_eq_true rfl)⟩, (Nat.le_of_ble_eq_true rfl), (Nat.le_of_ble_eq_true rfl), (Nat.le_of_ble_eq_true rfl)⟩ (fun v85 s85 h85 => ?_) (fun _ _ _ h => h.elim)
            obtain ⟨rfl, rfl⟩ := h85
            first | refine ri_aload_n C dX4_proverb_88 rfl ?_ | refine ri_aload_nQ C dX4_proverb_88 rfl ?_ | refine ri_aload_nN C dX4_proverb_88 rfl ?_
            refine ri_iload_n C dX4_proverb_89 rfl ?_
            refine ri_iconst C dX4_proverb_90 kc_i3 ?_
            refine ri_callV C km_X4_of q3140 qs75 dX4_proverb_91 (mt_X4_of htr (by first | assumption | (repeat (first | assumption | exact kx_rs (by assumption) | exact kx_ne2 (by omega) | exact kx_ne1 (by omega) | refine kx_ro (by assumption) ?_ ?_ | exact kx_rs rfl | refine kx_ro rfl ?_ ?_))) (by first | assumption | (repeat (first | assumption | exact kx_rs (by assumption) | exact kx_ne2 (by omega) | exact kx_ne1 (by omega) | refine kx_ro (by assumption) ?_ ?_ | exact kx_rs rfl | refine kx_ro rfl ?_ ?_))) (by omega)) rfl rfl (kx_rcN C (by first | assumption | (repeat (first | assumption | exact kx_rs (by assumption) | exact kx_ne2 (by omega) | exact kx_ne1 (by omega) | refine kx_ro (by assumption) ?_ ?_ | exact kx_rs rfl | refine kx_ro rfl ?_ ?_))) rfl) ⟨⟨(Nat.le_of_ble_eq_true rfl), (Nat.le_of_ble_eq_true rfl)⟩, (Nat.le_of_ble_eq_true rfl), (Nat.le_of_ble_eq_true rfl), (Nat.le_of_ble_eq_true rfl)⟩ (fun v91 s91 h91 => ?_) (fun _ _ _ h => h.elim)
            obtain ⟨rfl, rfl⟩ := h91
            refine ri_bipush C dX4_proverb_94 kc_b12 ?_
            refine ri_callS C km_X4_width q3235 dX4_proverb_96 (mt_X4_width htr (Or.inl rfl) gk.2.2.2.1 gk.2.2.1) rfl rfl ⟨⟨(Nat.le_of_ble_eq_true rfl), (Nat.le_of_ble_eq_true rfl)⟩, (Nat.le_of_ble_eq_true rfl), (Nat.le_of_ble_eq_true rfl), (Nat.le_of_ble_eq_true rfl)⟩ (fun v96 s96 h96 => ?_) (fun _ _ _ h => h.elim)
            obtain ⟨rfl, rfl⟩ := h96
            exact ri_iret C hQ dX4_proverb_99 (by first | rfl | exact kx_b_nar _) (Nat.le_of_ble_eq_true rfl) (Nat.le_of_ble_eq_true rfl) (by simp only [an_proverb, an_c, c1, c2, nk1, nk2, an_pv, Bool.and_true, Bool.and_false, Bool.true_and, cond_true, cond_false]; exact ⟨by first | rfl | trivial, by first | assumption | simp only [*, kx_up_u, mo_z_z]⟩)
          by_cases hs39_12 : k2 = 12
          · subst hs39_12
            refine ri_tabIn C 12 (61) 100 dX4_proverb_39 (by decide) (by decide) rfl rfl ?_
            first | refine ri_aload_n C dX4_proverb_100 rfl ?_ | refine ri_aload_nQ C dX4_proverb_100 rfl ?_ | refine ri_aload_nN C dX4_proverb_100 rfl ?_
            refine ri_iload_n C dX4_proverb_101 rfl ?_
            refine ri_callV C km_X4_clashesOf q3315 qs109 dX4_proverb_102 (mt_X4_clashesOf htr (by first | assumption | (repeat (first | assumption | exact kx_rs (by assumption) | exact kx_ne2 (by omega) | exact kx_ne1 (by omega) | refine kx_ro (by assumption) ?_ ?_ | exact kx_rs rfl | refine kx_ro rfl ?_ ?_))) (by first | assumption | (repeat (first | assumption | exact kx_rs (by assumption) | exact kx_ne2 (by omega) | exact kx_ne1 (by omega) | refine kx_ro (by assumption) ?_ ?_ | exact kx_rs rfl | refine kx_ro rfl ?_ ?_))) hu (by omega)) rfl rfl (kx_rcN C (by first | assumption | (repeat (first | assumption | exact kx_rs (by assumption) | exact kx_ne2 (by omega) | exact kx_ne1 (by omega) | refine kx_ro (by assumption) ?_ ?_ | exact kx_rs rfl | refine kx_ro rfl ?_ ?_))) rfl) ⟨⟨(Nat.le_of_ble_eq_true rfl), (Nat.le_of_ble_eq_true rfl)⟩, (Nat.le_of_ble_eq_true rfl), (Nat.le_of_ble_eq_true rfl), (Nat.le_of_ble_eq_true rfl)⟩ (fun v102 s102 h102 => ?_) (fun _ _ _ h => h.elim)
            obtain ⟨rfl, rfl⟩ := h102
            exact ri_iret C hQ dX4_proverb_105 (by first | rfl | exact kx_b_nar _) (Nat.le_of_ble_eq_true rfl) (Nat.le_of_ble_eq_true rfl) (by simp only [an_proverb, an_c, c1, c2, nk1, nk2, an_pv, Bool.and_true, Bool.and_false, Bool.true_and, cond_true, cond_false]; exact ⟨by first | rfl | trivial, by first | assumption | simp only [*, kx_up_u, mo_z_z]⟩)
          refine ri_tabOut C 106 dX4_proverb_39 (by rw [nI_toInt (by omega)]; omega) rfl ?_
          first | refine ri_aload_n C dX4_proverb_106 rfl ?_ | refine ri_aload_nQ C dX4_proverb_106 rfl ?_ | refine ri_aload_nN C dX4_proverb_106 rfl ?_
          refine ri_iload_n C dX4_proverb_107 rfl ?_
          refine ri_iload_n C dX4_proverb_108 rfl ?_
          refine ri_callV C km_X4_of q3140 qs75 dX4_proverb_109 (mt_X4_of htr (by first | assumption | (repeat (first | assumption | exact kx_rs (by assumption) | exact kx_ne2 (by omega) | exact kx_ne1 (by omega) | refine kx_ro (by assumption) ?_ ?_ | exact kx_rs rfl | refine kx_ro rfl ?_ ?_))) (by first | assumption | (repeat (first | assumption | exact kx_rs (by assumption) | exact kx_ne2 (by omega) | exact kx_ne1 (by omega) | refine kx_ro (by assumption) ?_ ?_ | exact kx_rs rfl | refine kx_ro rfl ?_ ?_))) (by omega)) rfl rfl (kx_rcN C (by first | assumption | (repeat (first | assumption | exact kx_rs (by assumption) | exact kx_ne2 (by omega) | exact kx_ne1 (by omega) | refine kx_ro (by assumption) ?_ ?_ | exact kx_rs rfl | refine kx_ro rfl ?_ ?_))) rfl) ⟨⟨(Nat.le_of_ble_eq_true rfl), (Nat.le_of_ble_eq_true rfl)⟩, (Nat.le_of_ble_eq_true rfl), (Nat.le_of_ble_eq_true rfl), (Nat.le_of_ble_eq_true rfl)⟩ (fun v109 s109 h109 => ?_) (fun _ _ _ h => h.elim)
          obtain ⟨rfl, rfl⟩ := h109
          exact ri_iret C hQ dX4_proverb_112 rfl (Nat.le_of_ble_eq_true rfl) (Nat.le_of_ble_eq_true rfl) (by simp only [an_proverb, an_c, c1, c2, nk1, nk2, an_pv, cond_true]; simp only [*, if_false]; exact ⟨by first | rfl | trivial, by first | assumption | simp only [*, kx_up_u, mo_z_z]⟩)
        · exact absurd h33 (by decide) --dead
      · exact absurd h21 (by decide) --dead
set_option maxHeartbeats 1000000 in
theorem mt_X4_speaks {l : Launch} {G : kx_G} (htr : l.stackTraces = false) {σ : kx_H} {mo : Nat} {ad : Nat → Nat} {z : Nat → Int32} {u : Nat → Nat} {x y w : Int32} (h0 : σ (1, 0) = some (mo, .inr (3, mo_L ad z))) (hw : σ (1, 1) = some (ad 0, kx_ai G 1417 (mx_w u))) (hu : mx_ok u) : kx_SP l G yX4_speaks (ws_ yX4_speaks cX4_speaks 4 (some .boolean)) 6 0 0 [.ref mo, .int x, .int y, .int w] σ (fun v τ => v = some (.int (an_speaks u x y w).2) ∧ τ = kx_up σ (1, 0) (mo, .inr (3, mo_L ad (mo_z z 9 (nI (an_speaks u x y w).1))))) kx_nx := by
  refine kx_body htr (by decide +kernel) (own := "RoseProverbsModel") (nm := "speaks") rfl rfl (Nat.le_of_ble_eq_true rfl) ?_
  intro p e s m args below meth c Q C hQ
  have gn := hu.1
  first | refine ri_aload_n C dX4_speaks_0 rfl ?_ | refine ri_aload_nQ C dX4_speaks_0 rfl ?_ | refine ri_aload_nN C dX4_speaks_0 rfl ?_
  refine ri_iconst C dX4_speaks_1 kc_i0 ?_
  refine ri_putf C dX4_speaks_2 fd_q2979_3 (fun h => nomatch h) (by first | assumption | (repeat (first | assumption | exact kx_rs (by assumption) | exact kx_ne2 (by omega) | exact kx_ne1 (by omega) | refine kx_ro (by assumption) ?_ ?_ | exact kx_rs rfl | refine kx_ro rfl ?_ ?_))) (Nat.le_of_ble_eq_true rfl) (by rfl) (by rfl) mo_set9 (fun s2 e2 => ?_)
  first | refine ri_aload_n C dX4_speaks_5 rfl ?_ | refine ri_aload_nQ C dX4_speaks_5 rfl ?_ | refine ri_aload_nN C dX4_speaks_5 rfl ?_
  refine ri_iload_n C dX4_speaks_6 rfl ?_
  refine ri_callV C km_X4_noProverb q3342 qs113 dX4_speaks_7 (mt_X4_noProverb htr (by first | assumption | (repeat (first | assumption | exact kx_rs (by assumption) | exact kx_ne2 (by omega) | exact kx_ne1 (by omega) | refine kx_ro (by assumption) ?_ ?_ | exact kx_rs rfl | refine kx_ro rfl ?_ ?_))) (by first | assumption | (repeat (first | assumption | exact kx_rs (by assumption) | exact kx_ne2 (by omega) | exact kx_ne1 (by omega) | refine kx_ro (by assumption) ?_ ?_ | exact kx_rs rfl | refine kx_ro rfl ?_ ?_))) (by omega)) rfl rfl (kx_rcN C (by first | assumption | (repeat (first | assumption | exact kx_rs (by assumption) | exact kx_ne2 (by omega) | exact kx_ne1 (by omega) | refine kx_ro (by assumption) ?_ ?_ | exact kx_rs rfl | refine kx_ro rfl ?_ ?_))) rfl) ⟨⟨(Nat.le_of_ble_eq_true rfl), (Nat.le_of_ble_eq_true rfl)⟩, (Nat.le_of_ble_eq_true rfl), (Nat.le_of_ble_eq_true rfl), (Nat.le_of_ble_eq_true rfl)⟩ (fun v7 s7 h7 => ?_) (fun _ _ _ h => h.elim)
  obtain ⟨rfl, e7⟩ := h7
  first | refine ri_if_neB C 36 dX4_speaks_10 rfl (fun h10 => ?_) (fun h10 => ?_) | refine ri_if_neN C 36 dX4_speaks_10 rfl (by omega) (fun h10 => ?_) (fun h10 => ?_) | refine ri_if_ne C 36 dX4_speaks_10 rfl (fun h10 => ?_) (fun h10 => ?_)
  · have c1 : mx_ix x (u 0) = false := kx_bn_t h10
    rw [c1, cond_false] at e7
    refine ri_iconst C dX4_speaks_36 kc_i0 ?_
    exact ri_iret C hQ dX4_speaks_37 (by first | rfl | exact kx_b_nar _) (Nat.le_of_ble_eq_true rfl) (Nat.le_of_ble_eq_true rfl) (by constructor <;> first | (simp only [an_speaks, an_c, *, Bool.and_true, Bool.and_false, Bool.true_and, Bool.false_and, cond_true, cond_false, kx_up_u, mo_z_z]; done) | (simp only [an_speaks, an_c, *, Bool.and_true, Bool.and_false, Bool.true_and, Bool.false_and, cond_true, cond_false, kx_up_u, mo_z_z]; rfl))
  · have c1 : mx_ix x (u 0) = true := kx_bn_f h10
    rw [c1, cond_true] at e7
    subst e7
    obtain ⟨k1, hk1, rfl⟩ := mx_ix_t c1
    have nk1 : mx_n (nI k1) = k1 := mx_n_nI (by omega)
    first | refine ri_aload_n C dX4_speaks_13 rfl ?_ | refine ri_aload_nQ C dX4_speaks_13 rfl ?_ | refine ri_aload_nN C dX4_speaks_13 rfl ?_
    refine ri_iload_n C dX4_speaks_14 rfl ?_
    refine ri_iload_n C dX4_speaks_15 rfl ?_
    refine ri_callV C km_X4_noPlace q3350 qs114 dX4_speaks_16 (mt_X4_noPlace htr (by first | assumption | (repeat (first | assumption | exact kx_rs (by assumption) | exact kx_ne2 (by omega) | exact kx_ne1 (by omega) | refine kx_ro (by assumption) ?_ ?_ | exact kx_rs rfl | refine kx_ro rfl ?_ ?_)))) rfl rfl (kx_rcN C (by first | assumption | (repeat (first | assumption | exact kx_rs (by assumption) | exact kx_ne2 (by omega) | exact kx_ne1 (by omega) | refine kx_ro (by assumption) ?_ ?_ | exact kx_rs rfl | refine kx_ro rfl ?_ ?_))) rfl) ⟨⟨(Nat.le_of_ble_eq_true rfl), (Nat.le_of_ble_eq_true rfl)⟩, (Nat.le_of_ble_eq_true rfl), (Nat.le_of_ble_eq_true rfl), (Nat.le_of_ble_eq_true rfl)⟩ (fun v16 s16 h16 => ?_) (fun _ _ _ h => h.elim)
    obtain ⟨rfl, e16⟩ := h16
    first | refine ri_if_neB C 36 dX4_speaks_19 rfl (fun h19 => ?_) (fun h19 => ?_) | refine ri_if_neN C 36 dX4_speaks_19 rfl (by omega) (fun h19 => ?_) (fun h19 => ?_) | refine ri_if_ne C 36 dX4_speaks_19 rfl (fun h19 => ?_) (fun h19 => ?_)
    · have c2 : (mx_ix y 16 && mx_ix w 12) = false := kx_bn_t h19
      rw [c2, cond_false] at e16
      refine ri_iconst C dX4_speaks_36 kc_i0 ?_
      exact ri_iret C hQ dX4_speaks_37 (by first | rfl | exact kx_b_nar _) (Nat.le_of_ble_eq_true rfl) (Nat.le_of_ble_eq_true rfl) (by constructor <;> first | (simp only [an_speaks, an_c, *, Bool.and_true, Bool.and_false, Bool.true_and, Bool.false_and, cond_true, cond_false, kx_up_u, mo_z_z]; done) | (simp only [an_speaks, an_c, *, Bool.and_true, Bool.and_false, Bool.true_and, Bool.false_and, cond_true, cond_false, kx_up_u, mo_z_z]; rfl))
    · have c2 : (mx_ix y 16 && mx_ix w 12) = true := kx_bn_f h19
      rw [c2, cond_true] at e16
      subst e16
      obtain ⟨c2x, c2y⟩ : mx_ix y 16 = true ∧ mx_ix w 12 = true := by simpa using c2
      obtain ⟨k2, hk2, rfl⟩ := mx_ix_t c2x
      have nk2 : mx_n (nI k2) = k2 := mx_n_nI (by omega)
      obtain ⟨k3, hk3, rfl⟩ := mx_ix_t c2y
      have nk3 : mx_n (nI k3) = k3 := mx_n_nI (by omega)
      first | refine ri_aload_n C dX4_speaks_22 rfl ?_ | refine ri_aload_nQ C dX4_speaks_22 rfl ?_ | refine ri_aload_nN C dX4_speaks_22 rfl ?_
      refine ri_iload_n C dX4_speaks_23 rfl ?_
      refine ri_iload_n C dX4_speaks_24 rfl ?_
      refine ri_iload_n C dX4_speaks_25 rfl ?_
      refine ri_callV C km_X4_isSpeaking q3221 qs92 dX4_speaks_26 (mt_X4_isSpeaking htr (by first | assumption | (repeat (first | assumption | exact kx_rs (by assumption) | exact kx_ne2 (by omega) | exact kx_ne1 (by omega) | refine kx_ro (by assumption) ?_ ?_ | exact kx_rs rfl | refine kx_ro rfl ?_ ?_))) (by first | assumption | (repeat (first | assumption | exact kx_rs (by assumption) | exact kx_ne2 (by omega) | exact kx_ne1 (by omega) | refine kx_ro (by assumption) ?_ ?_ | exact kx_rs rfl | refine kx_ro rfl ?_ ?_))) hu hk1 hk2 hk3) rfl rfl (kx_rcN C (by first | assumption | (repeat (first | assumption | exact kx_rs (by assumption) | exact kx_ne2 (by omega) | exact kx_ne1 (by omega) | refine kx_ro (by assumption) ?_ ?_ | exact kx_rs rfl | refine kx_ro rfl ?_ ?_))) rfl) ⟨⟨(Nat.le_of_ble_eq_true rfl), (Nat.le_of_ble_eq_true rfl)⟩, (Nat.le_of_ble_eq_true rfl), (Nat.le_of_ble_eq_true rfl), (Nat.le_of_ble_eq_true rfl)⟩ (fun v26 s26 h26 => ?_) (fun _ _ _ h => h.elim)
      obtain ⟨rfl, rfl⟩ := h26
      first | refine ri_if_eqB C 36 dX4_speaks_29 rfl (fun h29 => ?_) (fun h29 => ?_) | refine ri_if_eqN C 36 dX4_speaks_29 rfl (by omega) (fun h29 => ?_) (fun h29 => ?_) | refine ri_if_eq C 36 dX4_speaks_29 rfl (fun h29 => ?_) (fun h29 => ?_)
      · refine ri_iconst C dX4_speaks_36 kc_i0 ?_
        exact ri_iret C hQ dX4_speaks_37 (by first | rfl | exact kx_b_nar _) (Nat.le_of_ble_eq_true rfl) (Nat.le_of_ble_eq_true rfl) (by constructor <;> first | (simp only [an_speaks, an_c, *, Bool.and_true, Bool.and_false, Bool.true_and, Bool.false_and, cond_true, cond_false, kx_up_u, mo_z_z]; done) | (simp only [an_speaks, an_c, *, Bool.and_true, Bool.and_false, Bool.true_and, Bool.false_and, cond_true, cond_false, kx_up_u, mo_z_z]; rfl))
      · refine ri_iconst C dX4_speaks_32 kc_i1 ?_
        refine ri_goto C 37 dX4_speaks_33 rfl ?_
        exact ri_iret C hQ dX4_speaks_37 (by first | rfl | exact kx_b_nar _) (Nat.le_of_ble_eq_true rfl) (Nat.le_of_ble_eq_true rfl) (by constructor <;> first | (simp only [an_speaks, an_c, *, Bool.and_true, Bool.and_false, Bool.true_and, Bool.false_and, cond_true, cond_false, kx_up_u, mo_z_z]; done) | (simp only [an_speaks, an_c, *, Bool.and_true, Bool.and_false, Bool.true_and, Bool.false_and, cond_true, cond_false, kx_up_u, mo_z_z]; rfl))
set_option maxHeartbeats 1000000 in
theorem mt_X4_speakers {l : Launch} {G : kx_G} (htr : l.stackTraces = false) {σ : kx_H} {mo : Nat} {ad : Nat → Nat} {z : Nat → Int32} {u : Nat → Nat} {x y : Int32} (h0 : σ (1, 0) = some (mo, .inr (3, mo_L ad z))) (hw : σ (1, 1) = some (ad 0, kx_ai G 1417 (mx_w u))) (hu : mx_ok u) : kx_SP l G yX4_speakers (ws_ yX4_speakers cX4_speakers 3 (some .int)) 7 0 0 [.ref mo, .int x, .int y] σ (fun v τ => v = some (.int (an_speakers u x y).2) ∧ τ = kx_up σ (1, 0) (mo, .inr (3, mo_L ad (mo_z z 9 (nI (an_speakers u x y).1))))) kx_nx := by
  refine kx_body htr (by decide +kernel) (own := "RoseProverbsModel") (nm := "speakers") rfl rfl (Nat.le_of_ble_eq_true rfl) ?_
  intro p e s m args below meth c Q C hQ
  have gn := hu.1
  first | refine ri_aload_n C dX4_speakers_0 rfl ?_ | refine ri_aload_nQ C dX4_speakers_0 rfl ?_ | refine ri_aload_nN C dX4_speakers_0 rfl ?_
  refine ri_iconst C dX4_speakers_1 kc_i0 ?_
  refine ri_putf C dX4_speakers_2 fd_q2979_3 (fun h => nomatch h) (by first | assumption | (repeat (first | assumption | exact kx_rs (by assumption) | exact kx_ne2 (by omega) | exact kx_ne1 (by omega) | refine kx_ro (by assumption) ?_ ?_ | exact kx_rs rfl | refine kx_ro rfl ?_ ?_))) (Nat.le_of_ble_eq_true rfl) (by rfl) (by rfl) mo_set9 (fun s2 e2 => ?_)
  first | refine ri_aload_n C dX4_speakers_5 rfl ?_ | refine ri_aload_nQ C dX4_speakers_5 rfl ?_ | refine ri_aload_nN C dX4_speakers_5 rfl ?_
  refine ri_iload_n C dX4_speakers_6 rfl ?_
  refine ri_iload_n C dX4_speakers_7 rfl ?_
  refine ri_callV C km_X4_noPlace q3350 qs114 dX4_speakers_8 (mt_X4_noPlace htr (by first | assumption | (repeat (first | assumption | exact kx_rs (by assumption) | exact kx_ne2 (by omega) | exact kx_ne1 (by omega) | refine kx_ro (by assumption) ?_ ?_ | exact kx_rs rfl | refine kx_ro rfl ?_ ?_)))) rfl rfl (kx_rcN C (by first | assumption | (repeat (first | assumption | exact kx_rs (by assumption) | exact kx_ne2 (by omega) | exact kx_ne1 (by omega) | refine kx_ro (by assumption) ?_ ?_ | exact kx_rs rfl | refine kx_ro rfl ?_ ?_))) rfl) ⟨⟨(Nat.le_of_ble_eq_true rfl), (Nat.le_of_ble_eq_true rfl)⟩, (Nat.le_of_ble_eq_true rfl), (Nat.le_of_ble_eq_true rfl), (Nat.le_of_ble_eq_true rfl)⟩ (fun v8 s8 h8 => ?_) (fun _ _ _ h => h.elim)
  obtain ⟨rfl, e8⟩ := h8
  first | refine ri_if_eqB C 18 dX4_speakers_11 rfl (fun h11 => ?_) (fun h11 => ?_) | refine ri_if_eqN C 18 dX4_speakers_11 rfl (by omega) (fun h11 => ?_) (fun h11 => ?_) | refine ri_if_eq C 18 dX4_speakers_11 rfl (fun h11 => ?_) (fun h11 => ?_)
  · have c1 : (mx_ix x 16 && mx_ix y 12) = true := kx_bn_f h11
    rw [c1, cond_true] at e8
    subst e8
    obtain ⟨c1x, c1y⟩ : mx_ix x 16 = true ∧ mx_ix y 12 = true := by simpa using c1
    obtain ⟨k1, hk1, rfl⟩ := mx_ix_t c1x
    have nk1 : mx_n (nI k1) = k1 := mx_n_nI (by omega)
    obtain ⟨k2, hk2, rfl⟩ := mx_ix_t c1y
    have nk2 : mx_n (nI k2) = k2 := mx_n_nI (by omega)
    first | refine ri_aload_n C dX4_speakers_18 rfl ?_ | refine ri_aload_nQ C dX4_speakers_18 rfl ?_ | refine ri_aload_nN C dX4_speakers_18 rfl ?_
    refine ri_iload_n C dX4_speakers_19 rfl ?_
    refine ri_iload_n C dX4_speakers_20 rfl ?_
    refine ri_callV C km_X4_speakersAt q3330 qs112 dX4_speakers_21 (mt_X4_speakersAt htr (by first | assumption | (repeat (first | assumption | exact kx_rs (by assumption) | exact kx_ne2 (by omega) | exact kx_ne1 (by omega) | refine kx_ro (by assumption) ?_ ?_ | exact kx_rs rfl | refine kx_ro rfl ?_ ?_))) (by first | assumption | (repeat (first | assumption | exact kx_rs (by assumption) | exact kx_ne2 (by omega) | exact kx_ne1 (by omega) | refine kx_ro (by assumption) ?_ ?_ | exact kx_rs rfl | refine kx_ro rfl ?_ ?_))) hu hk1 hk2) rfl rfl (kx_rcN C (by first | assumption | (repeat (first | assumption | exact kx_rs (by assumption) | exact kx_ne2 (by omega) | exact kx_ne1 (by omega) | refine kx_ro (by assumption) ?_ ?_ | exact kx_rs rfl | refine kx_ro rfl ?_ ?_))) rfl) ⟨⟨(Nat.le_of_ble_eq_true rfl), (Nat.le_of_ble_eq_true rfl)⟩, (Nat.le_of_ble_eq_true rfl), (Nat.le_of_ble_eq_true rfl), (Nat.le_of_ble_eq_true rfl)⟩ (fun v21 s21 h21 => ?_) (fun _ _ _ h => h.elim)
    obtain ⟨rfl, rfl⟩ := h21
    exact ri_iret C hQ dX4_speakers_24 (by first | rfl | exact kx_b_nar _) (Nat.le_of_ble_eq_true rfl) (Nat.le_of_ble_eq_true rfl) (by constructor <;> first | (simp only [an_speakers, an_c, *, Bool.and_true, Bool.and_false, Bool.true_and, Bool.false_and, cond_true, cond_false, kx_up_u, mo_z_z]; done) | (simp only [an_speakers, an_c, *, Bool.and_true, Bool.and_false, Bool.true_and, Bool.false_and, cond_true, cond_false, kx_up_u, mo_z_z]; rfl))
  · have c1 : (mx_ix x 16 && mx_ix y 12) = false := kx_bn_t h11
    rw [c1, cond_false] at e8
    refine ri_iconst C dX4_speakers_14 kc_i0 ?_
    refine ri_goto C 24 dX4_speakers_15 rfl ?_
    exact ri_iret C hQ dX4_speakers_24 (by first | rfl | exact kx_b_nar _) (Nat.le_of_ble_eq_true rfl) (Nat.le_of_ble_eq_true rfl) (by constructor <;> first | (simp only [an_speakers, an_c, *, Bool.and_true, Bool.and_false, Bool.true_and, Bool.false_and, cond_true, cond_false, kx_up_u, mo_z_z]; done) | (simp only [an_speakers, an_c, *, Bool.and_true, Bool.and_false, Bool.true_and, Bool.false_and, cond_true, cond_false, kx_up_u, mo_z_z]; rfl))
set_option maxHeartbeats 1000000 in
theorem mt_X4_told {l : Launch} {G : kx_G} (htr : l.stackTraces = false) {σ : kx_H} {mo : Nat} {ad : Nat → Nat} {z : Nat → Int32} {u : Nat → Nat} {x y : Int32} (h0 : σ (1, 0) = some (mo, .inr (3, mo_L ad z))) (hw : σ (1, 1) = some (ad 0, kx_ai G 1417 (mx_w u))) (hu : mx_ok u) : kx_SP l G yX4_told (ws_ yX4_told cX4_told 3 (some .int)) 8 0 0 [.ref mo, .int x, .int y] σ (fun v τ => v = some (.int (an_told u x y).2) ∧ τ = kx_up σ (1, 0) (mo, .inr (3, mo_L ad (mo_z z 9 (nI (an_told u x y).1))))) kx_nx := by
  refine kx_body htr (by decide +kernel) (own := "RoseProverbsModel") (nm := "told") rfl rfl (Nat.le_of_ble_eq_true rfl) ?_
  intro p e s m args below meth c Q C hQ
  have gn := hu.1
  first | refine ri_aload_n C dX4_told_0 rfl ?_ | refine ri_aload_nQ C dX4_told_0 rfl ?_ | refine ri_aload_nN C dX4_told_0 rfl ?_
  refine ri_iconst C dX4_told_1 kc_i0 ?_
  refine ri_putf C dX4_told_2 fd_q2979_3 (fun h => nomatch h) (by first | assumption | (repeat (first | assumption | exact kx_rs (by assumption) | exact kx_ne2 (by omega) | exact kx_ne1 (by omega) | refine kx_ro (by assumption) ?_ ?_ | exact kx_rs rfl | refine kx_ro rfl ?_ ?_))) (Nat.le_of_ble_eq_true rfl) (by rfl) (by rfl) mo_set9 (fun s2 e2 => ?_)
  first | refine ri_aload_n C dX4_told_5 rfl ?_ | refine ri_aload_nQ C dX4_told_5 rfl ?_ | refine ri_aload_nN C dX4_told_5 rfl ?_
  refine ri_iload_n C dX4_told_6 rfl ?_
  refine ri_iload_n C dX4_told_7 rfl ?_
  refine ri_callV C km_X4_noPlace q3350 qs114 dX4_told_8 (mt_X4_noPlace htr (by first | assumption | (repeat (first | assumption | exact kx_rs (by assumption) | exact kx_ne2 (by omega) | exact kx_ne1 (by omega) | refine kx_ro (by assumption) ?_ ?_ | exact kx_rs rfl | refine kx_ro rfl ?_ ?_)))) rfl rfl (kx_rcN C (by first | assumption | (repeat (first | assumption | exact kx_rs (by assumption) | exact kx_ne2 (by omega) | exact kx_ne1 (by omega) | refine kx_ro (by assumption) ?_ ?_ | exact kx_rs rfl | refine kx_ro rfl ?_ ?_))) rfl) ⟨⟨(Nat.le_of_ble_eq_true rfl), (Nat.le_of_ble_eq_true rfl)⟩, (Nat.le_of_ble_eq_true rfl), (Nat.le_of_ble_eq_true rfl), (Nat.le_of_ble_eq_true rfl)⟩ (fun v8 s8 h8 => ?_) (fun _ _ _ h => h.elim)
  obtain ⟨rfl, e8⟩ := h8
  first | refine ri_if_eqB C 18 dX4_told_11 rfl (fun h11 => ?_) (fun h11 => ?_) | refine ri_if_eqN C 18 dX4_told_11 rfl (by omega) (fun h11 => ?_) (fun h11 => ?_) | refine ri_if_eq C 18 dX4_told_11 rfl (fun h11 => ?_) (fun h11 => ?_)
  · have c1 : (mx_ix x 16 && mx_ix y 12) = true := kx_bn_f h11
    rw [c1, cond_true] at e8
    subst e8
    obtain ⟨c1x, c1y⟩ : mx_ix x 16 = true ∧ mx_ix y 12 = true := by simpa using c1
    obtain ⟨k1, hk1, rfl⟩ := mx_ix_t c1x
    have nk1 : mx_n (nI k1) = k1 := mx_n_nI (by omega)
    obtain ⟨k2, hk2, rfl⟩ := mx_ix_t c1y
    have nk2 : mx_n (nI k2) = k2 := mx_n_nI (by omega)
    first | refine ri_aload_n C dX4_told_18 rfl ?_ | refine ri_aload_nQ C dX4_told_18 rfl ?_ | refine ri_aload_nN C dX4_told_18 rfl ?_
    refine ri_iload_n C dX4_told_19 rfl ?_
    refine ri_iload_n C dX4_told_20 rfl ?_
    refine ri_callV C km_X4_toldAt q3213 qs90 dX4_told_21 (mt_X4_toldAt htr (by first | assumption | (repeat (first | assumption | exact kx_rs (by assumption) | exact kx_ne2 (by omega) | exact kx_ne1 (by omega) | refine kx_ro (by assumption) ?_ ?_ | exact kx_rs rfl | refine kx_ro rfl ?_ ?_))) (by first | assumption | (repeat (first | assumption | exact kx_rs (by assumption) | exact kx_ne2 (by omega) | exact kx_ne1 (by omega) | refine kx_ro (by assumption) ?_ ?_ | exact kx_rs rfl | refine kx_ro rfl ?_ ?_))) hu hk1 hk2) rfl rfl (kx_rcN C (by first | assumption | (repeat (first | assumption | exact kx_rs (by assumption) | exact kx_ne2 (by omega) | exact kx_ne1 (by omega) | refine kx_ro (by assumption) ?_ ?_ | exact kx_rs rfl | refine kx_ro rfl ?_ ?_))) rfl) ⟨⟨(Nat.le_of_ble_eq_true rfl), (Nat.le_of_ble_eq_true rfl)⟩, (Nat.le_of_ble_eq_true rfl), (Nat.le_of_ble_eq_true rfl), (Nat.le_of_ble_eq_true rfl)⟩ (fun v21 s21 h21 => ?_) (fun _ _ _ h => h.elim)
    obtain ⟨rfl, rfl⟩ := h21
    exact ri_iret C hQ dX4_told_24 (by first | rfl | exact kx_b_nar _) (Nat.le_of_ble_eq_true rfl) (Nat.le_of_ble_eq_true rfl) (by constructor <;> first | (simp only [an_told, an_c, *, Bool.and_true, Bool.and_false, Bool.true_and, Bool.false_and, cond_true, cond_false, kx_up_u, mo_z_z]; done) | (simp only [an_told, an_c, *, Bool.and_true, Bool.and_false, Bool.true_and, Bool.false_and, cond_true, cond_false, kx_up_u, mo_z_z]; rfl))
  · have c1 : (mx_ix x 16 && mx_ix y 12) = false := kx_bn_t h11
    rw [c1, cond_false] at e8
    refine ri_iconst C dX4_told_14 kc_i0 ?_
    refine ri_goto C 24 dX4_told_15 rfl ?_
    exact ri_iret C hQ dX4_told_24 (by first | rfl | exact kx_b_nar _) (Nat.le_of_ble_eq_true rfl) (Nat.le_of_ble_eq_true rfl) (by constructor <;> first | (simp only [an_told, an_c, *, Bool.and_true, Bool.and_false, Bool.true_and, Bool.false_and, cond_true, cond_false, kx_up_u, mo_z_z]; done) | (simp only [an_told, an_c, *, Bool.and_true, Bool.and_false, Bool.true_and, Bool.false_and, cond_true, cond_false, kx_up_u, mo_z_z]; rfl))
set_option maxHeartbeats 1000000 in
theorem mt_X4_voice {l : Launch} {G : kx_G} (htr : l.stackTraces = false) {σ : kx_H} {mo : Nat} {ad : Nat → Nat} {z : Nat → Int32} {u : Nat → Nat} {x y w : Int32} (h0 : σ (1, 0) = some (mo, .inr (3, mo_L ad z))) (hw : σ (1, 1) = some (ad 0, kx_ai G 1417 (mx_w u))) (hu : mx_ok u) : kx_SP l G yX4_voice (ws_ yX4_voice cX4_voice 4 (some .int)) 7 0 0 [.ref mo, .int x, .int y, .int w] σ (fun v τ => v = some (.int (an_voice u x y w).2) ∧ τ = kx_up σ (1, 0) (mo, .inr (3, mo_L ad (mo_z z 9 (nI (an_voice u x y w).1))))) kx_nx := by
  refine kx_body htr (by decide +kernel) (own := "RoseProverbsModel") (nm := "voice") rfl rfl (Nat.le_of_ble_eq_true rfl) ?_
  intro p e s m args below meth c Q C hQ
  have gn := hu.1
  first | refine ri_aload_n C dX4_voice_0 rfl ?_ | refine ri_aload_nQ C dX4_voice_0 rfl ?_ | refine ri_aload_nN C dX4_voice_0 rfl ?_
  refine ri_iconst C dX4_voice_1 kc_i0 ?_
  refine ri_putf C dX4_voice_2 fd_q2979_3 (fun h => nomatch h) (by first | assumption | (repeat (first | assumption | exact kx_rs (by assumption) | exact kx_ne2 (by omega) | exact kx_ne1 (by omega) | refine kx_ro (by assumption) ?_ ?_ | exact kx_rs rfl | refine kx_ro rfl ?_ ?_))) (Nat.le_of_ble_eq_true rfl) (by rfl) (by rfl) mo_set9 (fun s2 e2 => ?_)
  first | refine ri_aload_n C dX4_voice_5 rfl ?_ | refine ri_aload_nQ C dX4_voice_5 rfl ?_ | refine ri_aload_nN C dX4_voice_5 rfl ?_
  refine ri_iload_n C dX4_voice_6 rfl ?_
  refine ri_iload_n C dX4_voice_7 rfl ?_
  refine ri_callV C km_X4_noPlace q3350 qs114 dX4_voice_8 (mt_X4_noPlace htr (by first | assumption | (repeat (first | assumption | exact kx_rs (by assumption) | exact kx_ne2 (by omega) | exact kx_ne1 (by omega) | refine kx_ro (by assumption) ?_ ?_ | exact kx_rs rfl | refine kx_ro rfl ?_ ?_)))) rfl rfl (kx_rcN C (by first | assumption | (repeat (first | assumption | exact kx_rs (by assumption) | exact kx_ne2 (by omega) | exact kx_ne1 (by omega) | refine kx_ro (by assumption) ?_ ?_ | exact kx_rs rfl | refine kx_ro rfl ?_ ?_))) rfl) ⟨⟨(Nat.le_of_ble_eq_true rfl), (Nat.le_of_ble_eq_true rfl)⟩, (Nat.le_of_ble_eq_true rfl), (Nat.le_of_ble_eq_true rfl), (Nat.le_of_ble_eq_true rfl)⟩ (fun v8 s8 h8 => ?_) (fun _ _ _ h => h.elim)
  obtain ⟨rfl, e8⟩ := h8
  first | refine ri_if_neB C 22 dX4_voice_11 rfl (fun h11 => ?_) (fun h11 => ?_) | refine ri_if_neN C 22 dX4_voice_11 rfl (by omega) (fun h11 => ?_) (fun h11 => ?_) | refine ri_if_ne C 22 dX4_voice_11 rfl (fun h11 => ?_) (fun h11 => ?_)
  · have c1 : (mx_ix x 16 && mx_ix y 12) = false := kx_bn_t h11
    rw [c1, cond_false] at e8
    refine ri_iconst C dX4_voice_22 kc_i0 ?_
    refine ri_goto C 33 dX4_voice_23 rfl ?_
    exact ri_iret C hQ dX4_voice_33 (by first | rfl | exact kx_b_nar _) (Nat.le_of_ble_eq_true rfl) (Nat.le_of_ble_eq_true rfl) (by constructor <;> first | (simp only [an_voice, an_c, *, Bool.and_true, Bool.and_false, Bool.true_and, Bool.false_and, cond_true, cond_false, kx_up_u, mo_z_z]; done) | (simp only [an_voice, an_c, *, Bool.and_true, Bool.and_false, Bool.true_and, Bool.false_and, cond_true, cond_false, kx_up_u, mo_z_z]; rfl))
  · have c1 : (mx_ix x 16 && mx_ix y 12) = true := kx_bn_f h11
    rw [c1, cond_true] at e8
    subst e8
    obtain ⟨c1x, c1y⟩ : mx_ix x 16 = true ∧ mx_ix y 12 = true := by simpa using c1
    obtain ⟨k1, hk1, rfl⟩ := mx_ix_t c1x
    have nk1 : mx_n (nI k1) = k1 := mx_n_nI (by omega)
    obtain ⟨k2, hk2, rfl⟩ := mx_ix_t c1y
    have nk2 : mx_n (nI k2) = k2 := mx_n_nI (by omega)
    first | refine ri_aload_n C dX4_voice_14 rfl ?_ | refine ri_aload_nQ C dX4_voice_14 rfl ?_ | refine ri_aload_nN C dX4_voice_14 rfl ?_
    refine ri_iload_n C dX4_voice_15 rfl ?_
    refine ri_callV C km_X4_noWeather q3370 qs116 dX4_voice_16 (mt_X4_noWeather htr (by first | assumption | (repeat (first | assumption | exact kx_rs (by assumption) | exact kx_ne2 (by omega) | exact kx_ne1 (by omega) | refine kx_ro (by assumption) ?_ ?_ | exact kx_rs rfl | refine kx_ro rfl ?_ ?_)))) rfl rfl (kx_rcN C (by first | assumption | (repeat (first | assumption | exact kx_rs (by assumption) | exact kx_ne2 (by omega) | exact kx_ne1 (by omega) | refine kx_ro (by assumption) ?_ ?_ | exact kx_rs rfl | refine kx_ro rfl ?_ ?_))) rfl) ⟨⟨(Nat.le_of_ble_eq_true rfl), (Nat.le_of_ble_eq_true rfl)⟩, (Nat.le_of_ble_eq_true rfl), (Nat.le_of_ble_eq_true rfl), (Nat.le_of_ble_eq_true rfl)⟩ (fun v16 s16 h16 => ?_) (fun _ _ _ h => h.elim)
    obtain ⟨rfl, e16⟩ := h16
    first | refine ri_if_eqB C 26 dX4_voice_19 rfl (fun h19 => ?_) (fun h19 => ?_) | refine ri_if_eqN C 26 dX4_voice_19 rfl (by omega) (fun h19 => ?_) (fun h19 => ?_) | refine ri_if_eq C 26 dX4_voice_19 rfl (fun h19 => ?_) (fun h19 => ?_)
    · have c2 : mx_ix w 5 = true := kx_bn_f h19
      rw [c2, cond_true] at e16
      subst e16
      obtain ⟨k3, hk3, rfl⟩ := mx_ix_t c2
      have nk3 : mx_n (nI k3) = k3 := mx_n_nI (by omega)
      first | refine ri_aload_n C dX4_voice_26 rfl ?_ | refine ri_aload_nQ C dX4_voice_26 rfl ?_ | refine ri_aload_nN C dX4_voice_26 rfl ?_
      refine ri_iload_n C dX4_voice_27 rfl ?_
      refine ri_iload_n C dX4_voice_28 rfl ?_
      refine ri_iload_n C dX4_voice_29 rfl ?_
      refine ri_callV C km_X4_voiceOf q3217 qs91 dX4_voice_30 (mt_X4_voiceOf htr (by first | assumption | (repeat (first | assumption | exact kx_rs (by assumption) | exact kx_ne2 (by omega) | exact kx_ne1 (by omega) | refine kx_ro (by assumption) ?_ ?_ | exact kx_rs rfl | refine kx_ro rfl ?_ ?_))) (by first | assumption | (repeat (first | assumption | exact kx_rs (by assumption) | exact kx_ne2 (by omega) | exact kx_ne1 (by omega) | refine kx_ro (by assumption) ?_ ?_ | exact kx_rs rfl | refine kx_ro rfl ?_ ?_))) hu hk1 hk2 hk3) rfl rfl (kx_rcN C (by first | assumption | (repeat (first | assumption | exact kx_rs (by assumption) | exact kx_ne2 (by omega) | exact kx_ne1 (by omega) | refine kx_ro (by assumption) ?_ ?_ | exact kx_rs rfl | refine kx_ro rfl ?_ ?_))) rfl) ⟨⟨(Nat.le_of_ble_eq_true rfl), (Nat.le_of_ble_eq_true rfl)⟩, (Nat.le_of_ble_eq_true rfl), (Nat.le_of_ble_eq_true rfl), (Nat.le_of_ble_eq_true rfl)⟩ (fun v30 s30 h30 => ?_) (fun _ _ _ h => h.elim)
      obtain ⟨rfl, rfl⟩ := h30
      exact ri_iret C hQ dX4_voice_33 (by first | rfl | exact kx_b_nar _) (Nat.le_of_ble_eq_true rfl) (Nat.le_of_ble_eq_true rfl) (by constructor <;> first | (simp only [an_voice, an_c, *, Bool.and_true, Bool.and_false, Bool.true_and, Bool.false_and, cond_true, cond_false, kx_up_u, mo_z_z]; done) | (simp only [an_voice, an_c, *, Bool.and_true, Bool.and_false, Bool.true_and, Bool.false_and, cond_true, cond_false, kx_up_u, mo_z_z]; rfl))
    · have c2 : mx_ix w 5 = false := kx_bn_t h19
      rw [c2, cond_false] at e16
      refine ri_iconst C dX4_voice_22 kc_i0 ?_
      refine ri_goto C 33 dX4_voice_23 rfl ?_
      exact ri_iret C hQ dX4_voice_33 (by first | rfl | exact kx_b_nar _) (Nat.le_of_ble_eq_true rfl) (Nat.le_of_ble_eq_true rfl) (by constructor <;> first | (simp only [an_voice, an_c, *, Bool.and_true, Bool.and_false, Bool.true_and, Bool.false_and, cond_true, cond_false, kx_up_u, mo_z_z]; done) | (simp only [an_voice, an_c, *, Bool.and_true, Bool.and_false, Bool.true_and, Bool.false_and, cond_true, cond_false, kx_up_u, mo_z_z]; rfl))
set_option maxHeartbeats 1000000 in
theorem mt_X4_clash {l : Launch} {G : kx_G} (htr : l.stackTraces = false) {σ : kx_H} {mo : Nat} {ad : Nat → Nat} {z : Nat → Int32} {u : Nat → Nat} {x y : Int32} (h0 : σ (1, 0) = some (mo, .inr (3, mo_L ad z))) (hw : σ (1, 1) = some (ad 0, kx_ai G 1417 (mx_w u))) (hu : mx_ok u) : kx_SP l G yX4_clash (ws_ yX4_clash cX4_clash 3 (some .boolean)) 6 0 0 [.ref mo, .int x, .int y] σ (fun v τ => v = some (.int (an_clash u x y).2) ∧ τ = kx_up σ (1, 0) (mo, .inr (3, mo_L ad (mo_z z 9 (nI (an_clash u x y).1))))) kx_nx := by
  refine kx_body htr (by decide +kernel) (own := "RoseProverbsModel") (nm := "clash") rfl rfl (Nat.le_of_ble_eq_true rfl) ?_
  intro p e s m args below meth c Q C hQ
  have gn := hu.1
  first | refine ri_aload_n C dX4_clash_0 rfl ?_ | refine ri_aload_nQ C dX4_clash_0 rfl ?_ | refine ri_aload_nN C dX4_clash_0 rfl ?_
  refine ri_iconst C dX4_clash_1 kc_i0 ?_
  refine ri_putf C dX4_clash_2 fd_q2979_3 (fun h => nomatch h) (by first | assumption | (repeat (first | assumption | exact kx_rs (by assumption) | exact kx_ne2 (by omega) | exact kx_ne1 (by omega) | refine kx_ro (by assumption) ?_ ?_ | exact kx_rs rfl | refine kx_ro rfl ?_ ?_))) (Nat.le_of_ble_eq_true rfl) (by rfl) (by rfl) mo_set9 (fun s2 e2 => ?_)
  first | refine ri_aload_n C dX4_clash_5 rfl ?_ | refine ri_aload_nQ C dX4_clash_5 rfl ?_ | refine ri_aload_nN C dX4_clash_5 rfl ?_
  refine ri_iload_n C dX4_clash_6 rfl ?_
  refine ri_callV C km_X4_noProverb q3342 qs113 dX4_clash_7 (mt_X4_noProverb htr (by first | assumption | (repeat (first | assumption | exact kx_rs (by assumption) | exact kx_ne2 (by omega) | exact kx_ne1 (by omega) | refine kx_ro (by assumption) ?_ ?_ | exact kx_rs rfl | refine kx_ro rfl ?_ ?_))) (by first | assumption | (repeat (first | assumption | exact kx_rs (by assumption) | exact kx_ne2 (by omega) | exact kx_ne1 (by omega) | refine kx_ro (by assumption) ?_ ?_ | exact kx_rs rfl | refine kx_ro rfl ?_ ?_))) (by omega)) rfl rfl (kx_rcN C (by first | assumption | (repeat (first | assumption | exact kx_rs (by assumption) | exact kx_ne2 (by omega) | exact kx_ne1 (by omega) | refine kx_ro (by assumption) ?_ ?_ | exact kx_rs rfl | refine kx_ro rfl ?_ ?_))) rfl) ⟨⟨(Nat.le_of_ble_eq_true rfl), (Nat.le_of_ble_eq_true rfl)⟩, (Nat.le_of_ble_eq_true rfl), (Nat.le_of_ble_eq_true rfl), (Nat.le_of_ble_eq_true rfl)⟩ (fun v7 s7 h7 => ?_) (fun _ _ _ h => h.elim)
  obtain ⟨rfl, e7⟩ := h7
  first | refine ri_if_neB C 34 dX4_clash_10 rfl (fun h10 => ?_) (fun h10 => ?_) | refine ri_if_neN C 34 dX4_clash_10 rfl (by omega) (fun h10 => ?_) (fun h10 => ?_) | refine ri_if_ne C 34 dX4_clash_10 rfl (fun h10 => ?_) (fun h10 => ?_)
  · have c1 : mx_ix x (u 0) = false := kx_bn_t h10
    rw [c1, cond_false] at e7
    refine ri_iconst C dX4_clash_34 kc_i0 ?_
    exact ri_iret C hQ dX4_clash_35 (by first | rfl | exact kx_b_nar _) (Nat.le_of_ble_eq_true rfl) (Nat.le_of_ble_eq_true rfl) (by constructor <;> first | (simp only [an_clash, an_c, *, Bool.and_true, Bool.and_false, Bool.true_and, Bool.false_and, cond_true, cond_false, kx_up_u, mo_z_z]; done) | (simp only [an_clash, an_c, *, Bool.and_true, Bool.and_false, Bool.true_and, Bool.false_and, cond_true, cond_false, kx_up_u, mo_z_z]; rfl))
  · have c1 : mx_ix x (u 0) = true := kx_bn_f h10
    rw [c1, cond_true] at e7
    subst e7
    obtain ⟨k1, hk1, rfl⟩ := mx_ix_t c1
    have nk1 : mx_n (nI k1) = k1 := mx_n_nI (by omega)
    first | refine ri_aload_n C dX4_clash_13 rfl ?_ | refine ri_aload_nQ C dX4_clash_13 rfl ?_ | refine ri_aload_nN C dX4_clash_13 rfl ?_
    refine ri_iload_n C dX4_clash_14 rfl ?_
    refine ri_callV C km_X4_noProverb q3342 qs113 dX4_clash_15 (mt_X4_noProverb htr (by first | assumption | (repeat (first | assumption | exact kx_rs (by assumption) | exact kx_ne2 (by omega) | exact kx_ne1 (by omega) | refine kx_ro (by assumption) ?_ ?_ | exact kx_rs rfl | refine kx_ro rfl ?_ ?_))) (by first | assumption | (repeat (first | assumption | exact kx_rs (by assumption) | exact kx_ne2 (by omega) | exact kx_ne1 (by omega) | refine kx_ro (by assumption) ?_ ?_ | exact kx_rs rfl | refine kx_ro rfl ?_ ?_))) (by omega)) rfl rfl (kx_rcN C (by first | assumption | (repeat (first | assumption | exact kx_rs (by assumption) | exact kx_ne2 (by omega) | exact kx_ne1 (by omega) | refine kx_ro (by assumption) ?_ ?_ | exact kx_rs rfl | refine kx_ro rfl ?_ ?_))) rfl) ⟨⟨(Nat.le_of_ble_eq_true rfl), (Nat.le_of_ble_eq_true rfl)⟩, (Nat.le_of_ble_eq_true rfl), (Nat.le_of_ble_eq_true rfl), (Nat.le_of_ble_eq_true rfl)⟩ (fun v15 s15 h15 => ?_) (fun _ _ _ h => h.elim)
    obtain ⟨rfl, e15⟩ := h15
    first | refine ri_if_neB C 34 dX4_clash_18 rfl (fun h18 => ?_) (fun h18 => ?_) | refine ri_if_neN C 34 dX4_clash_18 rfl (by omega) (fun h18 => ?_) (fun h18 => ?_) | refine ri_if_ne C 34 dX4_clash_18 rfl (fun h18 => ?_) (fun h18 => ?_)
    · have c2 : mx_ix y (u 0) = false := kx_bn_t h18
      rw [c2, cond_false] at e15
      refine ri_iconst C dX4_clash_34 kc_i0 ?_
      exact ri_iret C hQ dX4_clash_35 (by first | rfl | exact kx_b_nar _) (Nat.le_of_ble_eq_true rfl) (Nat.le_of_ble_eq_true rfl) (by constructor <;> first | (simp only [an_clash, an_c, *, Bool.and_true, Bool.and_false, Bool.true_and, Bool.false_and, cond_true, cond_false, kx_up_u, mo_z_z]; done) | (simp only [an_clash, an_c, *, Bool.and_true, Bool.and_false, Bool.true_and, Bool.false_and, cond_true, cond_false, kx_up_u, mo_z_z]; rfl))
    · have c2 : mx_ix y (u 0) = true := kx_bn_f h18
      rw [c2, cond_true] at e15
      subst e15
      obtain ⟨k2, hk2, rfl⟩ := mx_ix_t c2
      have nk2 : mx_n (nI k2) = k2 := mx_n_nI (by omega)
      first | refine ri_aload_n C dX4_clash_21 rfl ?_ | refine ri_aload_nQ C dX4_clash_21 rfl ?_ | refine ri_aload_nN C dX4_clash_21 rfl ?_
      refine ri_iload_n C dX4_clash_22 rfl ?_
      refine ri_iload_n C dX4_clash_23 rfl ?_
      refine ri_callV C km_X4_areClashing q3319 qs110 dX4_clash_24 (mt_X4_areClashing htr (by first | assumption | (repeat (first | assumption | exact kx_rs (by assumption) | exact kx_ne2 (by omega) | exact kx_ne1 (by omega) | refine kx_ro (by assumption) ?_ ?_ | exact kx_rs rfl | refine kx_ro rfl ?_ ?_))) (by first | assumption | (repeat (first | assumption | exact kx_rs (by assumption) | exact kx_ne2 (by omega) | exact kx_ne1 (by omega) | refine kx_ro (by assumption) ?_ ?_ | exact kx_rs rfl | refine kx_ro rfl ?_ ?_))) hu hk1 hk2) rfl rfl (kx_rcN C (by first | assumption | (repeat (first | assumption | exact kx_rs (by assumption) | exact kx_ne2 (by omega) | exact kx_ne1 (by omega) | refine kx_ro (by assumption) ?_ ?_ | exact kx_rs rfl | refine kx_ro rfl ?_ ?_))) rfl) ⟨⟨(Nat.le_of_ble_eq_true rfl), (Nat.le_of_ble_eq_true rfl)⟩, (Nat.le_of_ble_eq_true rfl), (Nat.le_of_ble_eq_true rfl), (Nat.le_of_ble_eq_true rfl)⟩ (fun v24 s24 h24 => ?_) (fun _ _ _ h => h.elim)
      obtain ⟨rfl, rfl⟩ := h24
      first | refine ri_if_eqB C 34 dX4_clash_27 rfl (fun h27 => ?_) (fun h27 => ?_) | refine ri_if_eqN C 34 dX4_clash_27 rfl (by omega) (fun h27 => ?_) (fun h27 => ?_) | refine ri_if_eq C 34 dX4_clash_27 rfl (fun h27 => ?_) (fun h27 => ?_)
      · refine ri_iconst C dX4_clash_34 kc_i0 ?_
        exact ri_iret C hQ dX4_clash_35 (by first | rfl | exact kx_b_nar _) (Nat.le_of_ble_eq_true rfl) (Nat.le_of_ble_eq_true rfl) (by constructor <;> first | (simp only [an_clash, an_c, *, Bool.and_true, Bool.and_false, Bool.true_and, Bool.false_and, cond_true, cond_false, kx_up_u, mo_z_z]; done) | (simp only [an_clash, an_c, *, Bool.and_true, Bool.and_false, Bool.true_and, Bool.false_and, cond_true, cond_false, kx_up_u, mo_z_z]; rfl))
      · refine ri_iconst C dX4_clash_30 kc_i1 ?_
        refine ri_goto C 35 dX4_clash_31 rfl ?_
        exact ri_iret C hQ dX4_clash_35 (by first | rfl | exact kx_b_nar _) (Nat.le_of_ble_eq_true rfl) (Nat.le_of_ble_eq_true rfl) (by constructor <;> first | (simp only [an_clash, an_c, *, Bool.and_true, Bool.and_false, Bool.true_and, Bool.false_and, cond_true, cond_false, kx_up_u, mo_z_z]; done) | (simp only [an_clash, an_c, *, Bool.and_true, Bool.and_false, Bool.true_and, Bool.false_and, cond_true, cond_false, kx_up_u, mo_z_z]; rfl))
set_option maxHeartbeats 1000000 in
theorem mt_X4_metOf {l : Launch} {G : kx_G} (htr : l.stackTraces = false) {σ : kx_H} {mo : Nat} {ad : Nat → Nat} {z : Nat → Int32} {u : Nat → Nat} {k q : Nat} (h0 : σ (1, 0) = some (mo, .inr (3, mo_L ad z))) (hw : σ (1, 1) = some (ad 0, kx_ai G 1417 (mx_w u))) (hk : k < 24 ∧ q < 24) : kx_SP l G yX4_metOf (ws_ yX4_metOf cX4_metOf 3 (some .int)) 1 0 0 [.ref mo, .int (nI k), .int (nI q)] σ (fun v τ => v = some (.int (nI (u (265 + 24 * k + q)))) ∧ τ = σ) kx_nx := by
  refine kx_body htr (by decide +kernel) (own := "RoseProverbsModel") (nm := "metOf") rfl rfl (Nat.le_of_ble_eq_true rfl) ?_
  intro p e s m args below meth c Q C hQ
  first | refine ri_aload_n C dX4_metOf_0 rfl ?_ | refine ri_aload_nQ C dX4_metOf_0 rfl ?_ | refine ri_aload_nN C dX4_metOf_0 rfl ?_
  refine ri_getf C dX4_metOf_1 fr_q2970_3 (by first | assumption | (repeat (first | assumption | exact kx_rs (by assumption) | exact kx_ne2 (by omega) | exact kx_ne1 (by omega) | refine kx_ro (by assumption) ?_ ?_ | exact kx_rs rfl | refine kx_ro rfl ?_ ?_))) (by rfl) ?_
  refine ri_sipush C dX4_metOf_4 kc_s265 ?_
  refine ri_bipush C dX4_metOf_7 kc_b24 ?_
  refine ri_iload_n C dX4_metOf_9 rfl ?_
  first | refine ri_imulN C dX4_metOf_10 ?_ | refine ri_imul C dX4_metOf_10 ?_
  first | refine ri_iaddN C dX4_metOf_11 ?_ | refine ri_iadd C dX4_metOf_11 ?_
  refine ri_iload_n C dX4_metOf_12 rfl ?_
  first | refine ri_iaddN C dX4_metOf_13 ?_ | refine ri_iadd C dX4_metOf_13 ?_
  first | refine ri_ialoadN C dX4_metOf_14 (by first | assumption | (repeat (first | assumption | exact kx_rs (by assumption) | exact kx_ne2 (by omega) | exact kx_ne1 (by omega) | refine kx_ro (by assumption) ?_ ?_ | exact kx_rs rfl | refine kx_ro rfl ?_ ?_))) rfl (by omega) ?_ | refine ri_iaload C dX4_metOf_14 (by first | assumption | (repeat (first | assumption | exact kx_rs (by assumption) | exact kx_ne2 (by omega) | exact kx_ne1 (by omega) | refine kx_ro (by assumption) ?_ ?_ | exact kx_rs rfl | refine kx_ro rfl ?_ ?_))) rfl (by omega) ?_
  exact ri_iret C hQ dX4_metOf_15 rfl (Nat.le_of_ble_eq_true rfl) (Nat.le_of_ble_eq_true rfl) ⟨rfl, rfl⟩
set_option maxHeartbeats 1000000 in
theorem mt_X4_met {l : Launch} {G : kx_G} (htr : l.stackTraces = false) {σ : kx_H} {mo : Nat} {ad : Nat → Nat} {z : Nat → Int32} {u : Nat → Nat} {x y : Int32} (h0 : σ (1, 0) = some (mo, .inr (3, mo_L ad z))) (hw : σ (1, 1) = some (ad 0, kx_ai G 1417 (mx_w u))) (gn : u 0 ≤ 24) : kx_SP l G yX4_met (ws_ yX4_met cX4_met 3 (some .int)) 3 0 0 [.ref mo, .int x, .int y] σ (fun v τ => v = some (.int (an_met 265 u x y).2) ∧ τ = kx_up σ (1, 0) (mo, .inr (3, mo_L ad (mo_z z 9 (nI (an_met 265 u x y).1))))) kx_nx := by
  refine kx_body htr (by decide +kernel) (own := "RoseProverbsModel") (nm := "met") rfl rfl (Nat.le_of_ble_eq_true rfl) ?_
  intro p e s m args below meth c Q C hQ
  first | refine ri_aload_n C dX4_met_0 rfl ?_ | refine ri_aload_nQ C dX4_met_0 rfl ?_ | refine ri_aload_nN C dX4_met_0 rfl ?_
  refine ri_iconst C dX4_met_1 kc_i0 ?_
  refine ri_putf C dX4_met_2 fd_q2979_3 (fun h => nomatch h) (by first | assumption | (repeat (first | assumption | exact kx_rs (by assumption) | exact kx_ne2 (by omega) | exact kx_ne1 (by omega) | refine kx_ro (by assumption) ?_ ?_ | exact kx_rs rfl | refine kx_ro rfl ?_ ?_))) (Nat.le_of_ble_eq_true rfl) (by rfl) (by rfl) mo_set9 (fun s2 e2 => ?_)
  first | refine ri_aload_n C dX4_met_5 rfl ?_ | refine ri_aload_nQ C dX4_met_5 rfl ?_ | refine ri_aload_nN C dX4_met_5 rfl ?_
  refine ri_iload_n C dX4_met_6 rfl ?_
  refine ri_callV C km_X4_noProverb q3342 qs113 dX4_met_7 (mt_X4_noProverb htr (by first | assumption | (repeat (first | assumption | exact kx_rs (by assumption) | exact kx_ne2 (by omega) | exact kx_ne1 (by omega) | refine kx_ro (by assumption) ?_ ?_ | exact kx_rs rfl | refine kx_ro rfl ?_ ?_))) (by first | assumption | (repeat (first | assumption | exact kx_rs (by assumption) | exact kx_ne2 (by omega) | exact kx_ne1 (by omega) | refine kx_ro (by assumption) ?_ ?_ | exact kx_rs rfl | refine kx_ro rfl ?_ ?_))) (by omega)) rfl rfl (kx_rcN C (by first | assumption | (repeat (first | assumption | exact kx_rs (by assumption) | exact kx_ne2 (by omega) | exact kx_ne1 (by omega) | refine kx_ro (by assumption) ?_ ?_ | exact kx_rs rfl | refine kx_ro rfl ?_ ?_))) rfl) ⟨⟨(Nat.le_of_ble_eq_true rfl), (Nat.le_of_ble_eq_true rfl)⟩, (Nat.le_of_ble_eq_true rfl), (Nat.le_of_ble_eq_true rfl), (Nat.le_of_ble_eq_true rfl)⟩ (fun v7 s7 h7 => ?_) (fun _ _ _ h => h.elim)
  obtain ⟨rfl, e7⟩ := h7
  first | refine ri_if_neB C 21 dX4_met_10 rfl (fun h10 => ?_) (fun h10 => ?_) | refine ri_if_neN C 21 dX4_met_10 rfl (by omega) (fun h10 => ?_) (fun h10 => ?_) | refine ri_if_ne C 21 dX4_met_10 rfl (fun h10 => ?_) (fun h10 => ?_)
  · have c1 : mx_ix x (u 0) = false := kx_bn_t h10
    rw [c1, cond_false] at e7
    refine ri_iconst C dX4_met_21 kc_i0 ?_
    refine ri_goto C 31 dX4_met_22 rfl ?_
    exact ri_iret C hQ dX4_met_31 (by first | rfl | exact kx_b_nar _) (Nat.le_of_ble_eq_true rfl) (Nat.le_of_ble_eq_true rfl) (by constructor <;> first | (simp only [an_met, an_c, *, Bool.and_true, Bool.and_false, Bool.true_and, Bool.false_and, cond_true, cond_false, kx_up_u, mo_z_z]; done) | (simp only [an_met, an_c, *, Bool.and_true, Bool.and_false, Bool.true_and, Bool.false_and, cond_true, cond_false, kx_up_u, mo_z_z]; rfl))
  · have c1 : mx_ix x (u 0) = true := kx_bn_f h10
    rw [c1, cond_true] at e7
    subst e7
    obtain ⟨k1, hk1, rfl⟩ := mx_ix_t c1
    have nk1 : mx_n (nI k1) = k1 := mx_n_nI (by omega)
    first | refine ri_aload_n C dX4_met_13 rfl ?_ | refine ri_aload_nQ C dX4_met_13 rfl ?_ | refine ri_aload_nN C dX4_met_13 rfl ?_
    refine ri_iload_n C dX4_met_14 rfl ?_
    refine ri_callV C km_X4_noProverb q3342 qs113 dX4_met_15 (mt_X4_noProverb htr (by first | assumption | (repeat (first | assumption | exact kx_rs (by assumption) | exact kx_ne2 (by omega) | exact kx_ne1 (by omega) | refine kx_ro (by assumption) ?_ ?_ | exact kx_rs rfl | refine kx_ro rfl ?_ ?_))) (by first | assumption | (repeat (first | assumption | exact kx_rs (by assumption) | exact kx_ne2 (by omega) | exact kx_ne1 (by omega) | refine kx_ro (by assumption) ?_ ?_ | exact kx_rs rfl | refine kx_ro rfl ?_ ?_))) (by omega)) rfl rfl (kx_rcN C (by first | assumption | (repeat (first | assumption | exact kx_rs (by assumption) | exact kx_ne2 (by omega) | exact kx_ne1 (by omega) | refine kx_ro (by assumption) ?_ ?_ | exact kx_rs rfl | refine kx_ro rfl ?_ ?_))) rfl) ⟨⟨(Nat.le_of_ble_eq_true rfl), (Nat.le_of_ble_eq_true rfl)⟩, (Nat.le_of_ble_eq_true rfl), (Nat.le_of_ble_eq_true rfl), (Nat.le_of_ble_eq_true rfl)⟩ (fun v15 s15 h15 => ?_) (fun _ _ _ h => h.elim)
    obtain ⟨rfl, e15⟩ := h15
    first | refine ri_if_eqB C 25 dX4_met_18 rfl (fun h18 => ?_) (fun h18 => ?_) | refine ri_if_eqN C 25 dX4_met_18 rfl (by omega) (fun h18 => ?_) (fun h18 => ?_) | refine ri_if_eq C 25 dX4_met_18 rfl (fun h18 => ?_) (fun h18 => ?_)
    · have c2 : mx_ix y (u 0) = true := kx_bn_f h18
      rw [c2, cond_true] at e15
      subst e15
      obtain ⟨k2, hk2, rfl⟩ := mx_ix_t c2
      have nk2 : mx_n (nI k2) = k2 := mx_n_nI (by omega)
      first | refine ri_aload_n C dX4_met_25 rfl ?_ | refine ri_aload_nQ C dX4_met_25 rfl ?_ | refine ri_aload_nN C dX4_met_25 rfl ?_
      refine ri_iload_n C dX4_met_26 rfl ?_
      refine ri_iload_n C dX4_met_27 rfl ?_
      refine ri_callV C km_X4_metOf q3406 qs120 dX4_met_28 (mt_X4_metOf htr (by first | assumption | (repeat (first | assumption | exact kx_rs (by assumption) | exact kx_ne2 (by omega) | exact kx_ne1 (by omega) | refine kx_ro (by assumption) ?_ ?_ | exact kx_rs rfl | refine kx_ro rfl ?_ ?_))) (by first | assumption | (repeat (first | assumption | exact kx_rs (by assumption) | exact kx_ne2 (by omega) | exact kx_ne1 (by omega) | refine kx_ro (by assumption) ?_ ?_ | exact kx_rs rfl | refine kx_ro rfl ?_ ?_))) (by omega)) rfl rfl (kx_rcN C (by first | assumption | (repeat (first | assumption | exact kx_rs (by assumption) | exact kx_ne2 (by omega) | exact kx_ne1 (by omega) | refine kx_ro (by assumption) ?_ ?_ | exact kx_rs rfl | refine kx_ro rfl ?_ ?_))) rfl) ⟨⟨(Nat.le_of_ble_eq_true rfl), (Nat.le_of_ble_eq_true rfl)⟩, (Nat.le_of_ble_eq_true rfl), (Nat.le_of_ble_eq_true rfl), (Nat.le_of_ble_eq_true rfl)⟩ (fun v28 s28 h28 => ?_) (fun _ _ _ h => h.elim)
      obtain ⟨rfl, rfl⟩ := h28
      exact ri_iret C hQ dX4_met_31 (by first | rfl | exact kx_b_nar _) (Nat.le_of_ble_eq_true rfl) (Nat.le_of_ble_eq_true rfl) (by constructor <;> first | (simp only [an_met, an_c, *, Bool.and_true, Bool.and_false, Bool.true_and, Bool.false_and, cond_true, cond_false, kx_up_u, mo_z_z]; done) | (simp only [an_met, an_c, *, Bool.and_true, Bool.and_false, Bool.true_and, Bool.false_and, cond_true, cond_false, kx_up_u, mo_z_z]; rfl))
    · have c2 : mx_ix y (u 0) = false := kx_bn_t h18
      rw [c2, cond_false] at e15
      refine ri_iconst C dX4_met_21 kc_i0 ?_
      refine ri_goto C 31 dX4_met_22 rfl ?_
      exact ri_iret C hQ dX4_met_31 (by first | rfl | exact kx_b_nar _) (Nat.le_of_ble_eq_true rfl) (Nat.le_of_ble_eq_true rfl) (by constructor <;> first | (simp only [an_met, an_c, *, Bool.and_true, Bool.and_false, Bool.true_and, Bool.false_and, cond_true, cond_false, kx_up_u, mo_z_z]; done) | (simp only [an_met, an_c, *, Bool.and_true, Bool.and_false, Bool.true_and, Bool.false_and, cond_true, cond_false, kx_up_u, mo_z_z]; rfl))
set_option maxHeartbeats 1000000 in
theorem mt_X4_beatOf {l : Launch} {G : kx_G} (htr : l.stackTraces = false) {σ : kx_H} {mo : Nat} {ad : Nat → Nat} {z : Nat → Int32} {u : Nat → Nat} {k q : Nat} (h0 : σ (1, 0) = some (mo, .inr (3, mo_L ad z))) (hw : σ (1, 1) = some (ad 0, kx_ai G 1417 (mx_w u))) (hk : k < 24 ∧ q < 24) : kx_SP l G yX4_beatOf (ws_ yX4_beatOf cX4_beatOf 3 (some .int)) 1 0 0 [.ref mo, .int (nI k), .int (nI q)] σ (fun v τ => v = some (.int (nI (u (841 + 24 * k + q)))) ∧ τ = σ) kx_nx := by
  refine kx_body htr (by decide +kernel) (own := "RoseProverbsModel") (nm := "beatOf") rfl rfl (Nat.le_of_ble_eq_true rfl) ?_
  intro p e s m args below meth c Q C hQ
  first | refine ri_aload_n C dX4_beatOf_0 rfl ?_ | refine ri_aload_nQ C dX4_beatOf_0 rfl ?_ | refine ri_aload_nN C dX4_beatOf_0 rfl ?_
  refine ri_getf C dX4_beatOf_1 fr_q2970_3 (by first | assumption | (repeat (first | assumption | exact kx_rs (by assumption) | exact kx_ne2 (by omega) | exact kx_ne1 (by omega) | refine kx_ro (by assumption) ?_ ?_ | exact kx_rs rfl | refine kx_ro rfl ?_ ?_))) (by rfl) ?_
  refine ri_sipush C dX4_beatOf_4 kc_s841 ?_
  refine ri_bipush C dX4_beatOf_7 kc_b24 ?_
  refine ri_iload_n C dX4_beatOf_9 rfl ?_
  first | refine ri_imulN C dX4_beatOf_10 ?_ | refine ri_imul C dX4_beatOf_10 ?_
  first | refine ri_iaddN C dX4_beatOf_11 ?_ | refine ri_iadd C dX4_beatOf_11 ?_
  refine ri_iload_n C dX4_beatOf_12 rfl ?_
  first | refine ri_iaddN C dX4_beatOf_13 ?_ | refine ri_iadd C dX4_beatOf_13 ?_
  first | refine ri_ialoadN C dX4_beatOf_14 (by first | assumption | (repeat (first | assumption | exact kx_rs (by assumption) | exact kx_ne2 (by omega) | exact kx_ne1 (by omega) | refine kx_ro (by assumption) ?_ ?_ | exact kx_rs rfl | refine kx_ro rfl ?_ ?_))) rfl (by omega) ?_ | refine ri_iaload C dX4_beatOf_14 (by first | assumption | (repeat (first | assumption | exact kx_rs (by assumption) | exact kx_ne2 (by omega) | exact kx_ne1 (by omega) | refine kx_ro (by assumption) ?_ ?_ | exact kx_rs rfl | refine kx_ro rfl ?_ ?_))) rfl (by omega) ?_
  exact ri_iret C hQ dX4_beatOf_15 rfl (Nat.le_of_ble_eq_true rfl) (Nat.le_of_ble_eq_true rfl) ⟨rfl, rfl⟩
set_option maxHeartbeats 1000000 in
theorem mt_X4_beat {l : Launch} {G : kx_G} (htr : l.stackTraces = false) {σ : kx_H} {mo : Nat} {ad : Nat → Nat} {z : Nat → Int32} {u : Nat → Nat} {x y : Int32} (h0 : σ (1, 0) = some (mo, .inr (3, mo_L ad z))) (hw : σ (1, 1) = some (ad 0, kx_ai G 1417 (mx_w u))) (gn : u 0 ≤ 24) : kx_SP l G yX4_beat (ws_ yX4_beat cX4_beat 3 (some .int)) 3 0 0 [.ref mo, .int x, .int y] σ (fun v τ => v = some (.int (an_met 841 u x y).2) ∧ τ = kx_up σ (1, 0) (mo, .inr (3, mo_L ad (mo_z z 9 (nI (an_met 841 u x y).1))))) kx_nx := by
  refine kx_body htr (by decide +kernel) (own := "RoseProverbsModel") (nm := "beat") rfl rfl (Nat.le_of_ble_eq_true rfl) ?_
  intro p e s m args below meth c Q C hQ
  first | refine ri_aload_n C dX4_beat_0 rfl ?_ | refine ri_aload_nQ C dX4_beat_0 rfl ?_ | refine ri_aload_nN C dX4_beat_0 rfl ?_
  refine ri_iconst C dX4_beat_1 kc_i0 ?_
  refine ri_putf C dX4_beat_2 fd_q2979_3 (fun h => nomatch h) (by first | assumption | (repeat (first | assumption | exact kx_rs (by assumption) | exact kx_ne2 (by omega) | exact kx_ne1 (by omega) | refine kx_ro (by assumption) ?_ ?_ | exact kx_rs rfl | refine kx_ro rfl ?_ ?_))) (Nat.le_of_ble_eq_true rfl) (by rfl) (by rfl) mo_set9 (fun s2 e2 => ?_)
  first | refine ri_aload_n C dX4_beat_5 rfl ?_ | refine ri_aload_nQ C dX4_beat_5 rfl ?_ | refine ri_aload_nN C dX4_beat_5 rfl ?_
  refine ri_iload_n C dX4_beat_6 rfl ?_
  refine ri_callV C km_X4_noProverb q3342 qs113 dX4_beat_7 (mt_X4_noProverb htr (by first | assumption | (repeat (first | assumption | exact kx_rs (by assumption) | exact kx_ne2 (by omega) | exact kx_ne1 (by omega) | refine kx_ro (by assumption) ?_ ?_ | exact kx_rs rfl | refine kx_ro rfl ?_ ?_))) (by first | assumption | (repeat (first | assumption | exact kx_rs (by assumption) | exact kx_ne2 (by omega) | exact kx_ne1 (by omega) | refine kx_ro (by assumption) ?_ ?_ | exact kx_rs rfl | refine kx_ro rfl ?_ ?_))) (by omega)) rfl rfl (kx_rcN C (by first | assumption | (repeat (first | assumption | exact kx_rs (by assumption) | exact kx_ne2 (by omega) | exact kx_ne1 (by omega) | refine kx_ro (by assumption) ?_ ?_ | exact kx_rs rfl | refine kx_ro rfl ?_ ?_))) rfl) ⟨⟨(Nat.le_of_ble_eq_true rfl), (Nat.le_of_ble_eq_true rfl)⟩, (Nat.le_of_ble_eq_true rfl), (Nat.le_of_ble_eq_true rfl), (Nat.le_of_ble_eq_true rfl)⟩ (fun v7 s7 h7 => ?_) (fun _ _ _ h => h.elim)
  obtain ⟨rfl, e7⟩ := h7
  first | refine ri_if_neB C 21 dX4_beat_10 rfl (fun h10 => ?_) (fun h10 => ?_) | refine ri_if_neN C 21 dX4_beat_10 rfl (by omega) (fun h10 => ?_) (fun h10 => ?_) | refine ri_if_ne C 21 dX4_beat_10 rfl (fun h10 => ?_) (fun h10 => ?_)
  · have c1 : mx_ix x (u 0) = false := kx_bn_t h10
    rw [c1, cond_false] at e7
    refine ri_iconst C dX4_beat_21 kc_i0 ?_
    refine ri_goto C 31 dX4_beat_22 rfl ?_
    exact ri_iret C hQ dX4_beat_31 (by first | rfl | exact kx_b_nar _) (Nat.le_of_ble_eq_true rfl) (Nat.le_of_ble_eq_true rfl) (by constructor <;> first | (simp only [an_met, an_c, *, Bool.and_true, Bool.and_false, Bool.true_and, Bool.false_and, cond_true, cond_false, kx_up_u, mo_z_z]; done) | (simp only [an_met, an_c, *, Bool.and_true, Bool.and_false, Bool.true_and, Bool.false_and, cond_true, cond_false, kx_up_u, mo_z_z]; rfl))
  · have c1 : mx_ix x (u 0) = true := kx_bn_f h10
    rw [c1, cond_true] at e7
    subst e7
    obtain ⟨k1, hk1, rfl⟩ := mx_ix_t c1
    have nk1 : mx_n (nI k1) = k1 := mx_n_nI (by omega)
    first | refine ri_aload_n C dX4_beat_13 rfl ?_ | refine ri_aload_nQ C dX4_beat_13 rfl ?_ | refine ri_aload_nN C dX4_beat_13 rfl ?_
    refine ri_iload_n C dX4_beat_14 rfl ?_
    refine ri_callV C km_X4_noProverb q3342 qs113 dX4_beat_15 (mt_X4_noProverb htr (by first | assumption | (repeat (first | assumption | exact kx_rs (by assumption) | exact kx_ne2 (by omega) | exact kx_ne1 (by omega) | refine kx_ro (by assumption) ?_ ?_ | exact kx_rs rfl | refine kx_ro rfl ?_ ?_))) (by first | assumption | (repeat (first | assumption | exact kx_rs (by assumption) | exact kx_ne2 (by omega) | exact kx_ne1 (by omega) | refine kx_ro (by assumption) ?_ ?_ | exact kx_rs rfl | refine kx_ro rfl ?_ ?_))) (by omega)) rfl rfl (kx_rcN C (by first | assumption | (repeat (first | assumption | exact kx_rs (by assumption) | exact kx_ne2 (by omega) | exact kx_ne1 (by omega) | refine kx_ro (by assumption) ?_ ?_ | exact kx_rs rfl | refine kx_ro rfl ?_ ?_))) rfl) ⟨⟨(Nat.le_of_ble_eq_true rfl), (Nat.le_of_ble_eq_true rfl)⟩, (Nat.le_of_ble_eq_true rfl), (Nat.le_of_ble_eq_true rfl), (Nat.le_of_ble_eq_true rfl)⟩ (fun v15 s15 h15 => ?_) (fun _ _ _ h => h.elim)
    obtain ⟨rfl, e15⟩ := h15
    first | refine ri_if_eqB C 25 dX4_beat_18 rfl (fun h18 => ?_) (fun h18 => ?_) | refine ri_if_eqN C 25 dX4_beat_18 rfl (by omega) (fun h18 => ?_) (fun h18 => ?_) | refine ri_if_eq C 25 dX4_beat_18 rfl (fun h18 => ?_) (fun h18 => ?_)
    · have c2 : mx_ix y (u 0) = true := kx_bn_f h18
      rw [c2, cond_true] at e15
      subst e15
      obtain ⟨k2, hk2, rfl⟩ := mx_ix_t c2
      have nk2 : mx_n (nI k2) = k2 := mx_n_nI (by omega)
      first | refine ri_aload_n C dX4_beat_25 rfl ?_ | refine ri_aload_nQ C dX4_beat_25 rfl ?_ | refine ri_aload_nN C dX4_beat_25 rfl ?_
      refine ri_iload_n C dX4_beat_26 rfl ?_
      refine ri_iload_n C dX4_beat_27 rfl ?_
      refine ri_callV C km_X4_beatOf q3414 qs121 dX4_beat_28 (mt_X4_beatOf htr (by first | assumption | (repeat (first | assumption | exact kx_rs (by assumption) | exact kx_ne2 (by omega) | exact kx_ne1 (by omega) | refine kx_ro (by assumption) ?_ ?_ | exact kx_rs rfl | refine kx_ro rfl ?_ ?_))) (by first | assumption | (repeat (first | assumption | exact kx_rs (by assumption) | exact kx_ne2 (by omega) | exact kx_ne1 (by omega) | refine kx_ro (by assumption) ?_ ?_ | exact kx_rs rfl | refine kx_ro rfl ?_ ?_))) (by omega)) rfl rfl (kx_rcN C (by first | assumption | (repeat (first | assumption | exact kx_rs (by assumption) | exact kx_ne2 (by omega) | exact kx_ne1 (by omega) | refine kx_ro (by assumption) ?_ ?_ | exact kx_rs rfl | refine kx_ro rfl ?_ ?_))) rfl) ⟨⟨(Nat.le_of_ble_eq_true rfl), (Nat.le_of_ble_eq_true rfl)⟩, (Nat.le_of_ble_eq_true rfl), (Nat.le_of_ble_eq_true rfl), (Nat.le_of_ble_eq_true rfl)⟩ (fun v28 s28 h28 => ?_) (fun _ _ _ h => h.elim)
      obtain ⟨rfl, rfl⟩ := h28
      exact ri_iret C hQ dX4_beat_31 (by first | rfl | exact kx_b_nar _) (Nat.le_of_ble_eq_true rfl) (Nat.le_of_ble_eq_true rfl) (by constructor <;> first | (simp only [an_met, an_c, *, Bool.and_true, Bool.and_false, Bool.true_and, Bool.false_and, cond_true, cond_false, kx_up_u, mo_z_z]; done) | (simp only [an_met, an_c, *, Bool.and_true, Bool.and_false, Bool.true_and, Bool.false_and, cond_true, cond_false, kx_up_u, mo_z_z]; rfl))
    · have c2 : mx_ix y (u 0) = false := kx_bn_t h18
      rw [c2, cond_false] at e15
      refine ri_iconst C dX4_beat_21 kc_i0 ?_
      refine ri_goto C 31 dX4_beat_22 rfl ?_
      exact ri_iret C hQ dX4_beat_31 (by first | rfl | exact kx_b_nar _) (Nat.le_of_ble_eq_true rfl) (Nat.le_of_ble_eq_true rfl) (by constructor <;> first | (simp only [an_met, an_c, *, Bool.and_true, Bool.and_false, Bool.true_and, Bool.false_and, cond_true, cond_false, kx_up_u, mo_z_z]; done) | (simp only [an_met, an_c, *, Bool.and_true, Bool.and_false, Bool.true_and, Bool.false_and, cond_true, cond_false, kx_up_u, mo_z_z]; rfl))
