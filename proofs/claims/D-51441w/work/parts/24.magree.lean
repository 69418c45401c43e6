/-! the reference: whether all agrees; fractions -/
set_option maxRecDepth 100000
theorem mx_best_no {g : Nat → Nat} : ∀ {n : Nat}, mx_best g n = none → ∀ k, k < n → g k = 0
  | 0, _, k, hk => absurd hk (Nat.not_lt_zero k)
  | n + 1, h, k, hk => by
    unfold mx_best at h
    cases hb : mx_best g n with
    | none =>
      rw [hb] at h
      by_cases q : 0 < g n
      · simp [q] at h
      · by_cases e : k = n
        · subst e; omega
        · exact mx_best_no hb k (by omega)
    | some c =>
      rw [hb] at h
      by_cases q : g c < g n <;> simp [q] at h
theorem mx_best_is {g : Nat → Nat} : ∀ {n b : Nat}, mx_best g n = some b → 0 < g b ∧ (∀ k, k < n → g k ≤ g b) ∧ ∀ k, k < b → g k < g b
  | 0, b, h => by simp [mx_best] at h
  | n + 1, b, h => by
    unfold mx_best at h
    cases hb : mx_best g n with
    | none =>
      rw [hb] at h
      have hz := mx_best_no hb
      by_cases q : 0 < g n
      · simp [q] at h
        subst h
        refine ⟨q, fun k hk => ?_, fun k hk => by have := hz k hk; omega⟩
        by_cases e : k = n
        · subst e; exact Nat.le_refl _
        · have := hz k (by omega); omega
      · simp [q] at h
    | some c =>
      rw [hb] at h
      obtain ⟨h1, h2, h3⟩ := mx_best_is hb
      have hc := mx_best_lt hb
      by_cases q : g c < g n
      · simp [q] at h
        subst h
        refine ⟨by omega, fun k hk => ?_, fun k hk => by have := h2 k hk; omega⟩
        by_cases e : k = n
        · subst e; exact Nat.le_refl _
        · have := h2 k (by omega); omega
      · simp [q] at h
        subst h
        refine ⟨h1, fun k hk => ?_, h3⟩
        by_cases e : k = n
        · subst e; omega
        · exact h2 k (by omega)
theorem mx_sum_pos {f : Nat → Bool} {v : Nat → Nat} : ∀ {n k : Nat}, k < n → f k = true → v k ≤ mx_sum f v n
  | 0, k, h, _ => absurd h (Nat.not_lt_zero k)
  | n + 1, k, h, hf => by
    by_cases e : k = n
    · subst e; rw [mx_sum_t hf]; omega
    · have := mx_sum_pos (v := v) (show k < n by omega) hf
      cases hn : f n
      · rw [mx_sum_f hn]; exact this
      · rw [mx_sum_t hn]; omega
theorem mx_max_pos {f : Nat → Bool} {v : Nat → Nat} : ∀ {n k : Nat}, k < n → f k = true → v k ≤ mx_max f v n
  | 0, k, h, _ => absurd h (Nat.not_lt_zero k)
  | n + 1, k, h, hf => by
    by_cases e : k = n
    · subst e; rw [mx_max_t hf]; exact Nat.le_max_right _ _
    · have := mx_max_pos (v := v) (show k < n by omega) hf
      cases hn : f n
      · rw [mx_max_f hn]; exact this
      · rw [mx_max_t hn]; exact Nat.le_trans this (Nat.le_max_left _ _)
theorem mx_cnt_pos {f : Nat → Bool} : ∀ {n k : Nat}, k < n → f k = true → 0 < mx_cnt f n
  | 0, k, h, _ => absurd h (Nat.not_lt_zero k)
  | n + 1, k, h, hf => by
    by_cases e : k = n
    · subst e; rw [mx_cnt_t hf]; omega
    · have := mx_cnt_pos (show k < n by omega) hf
      rw [mx_cnt]; omega
theorem mx_cnt_z {f : Nat → Bool} : ∀ {n : Nat}, (∀ k, k < n → f k = false) → mx_cnt f n = 0
  | 0, _ => rfl
  | n + 1, h => by rw [mx_cnt_f (h n (by omega))]; exact mx_cnt_z (fun k hk => h k (by omega))
theorem mx_sum_z {f : Nat → Bool} {v : Nat → Nat} : ∀ {n : Nat}, (∀ k, k < n → f k = false) → mx_sum f v n = 0
  | 0, _ => rfl
  | n + 1, h => by rw [mx_sum_f (h n (by omega))]; exact mx_sum_z (fun k hk => h k (by omega))
theorem mx_max_z {f : Nat → Bool} {v : Nat → Nat} : ∀ {n : Nat}, (∀ k, k < n → f k = false) → mx_max f v n = 0
  | 0, _ => rfl
  | n + 1, h => by rw [mx_max_f (h n (by omega))]; exact mx_max_z (fun k hk => h k (by omega))
/-- a voice is 0 just if none says it -/
theorem mx_vo_z {u : Nat → Nat} {pt mo w : Nat} (hu : mx_ok u) : mx_vo u pt mo w = 0 ↔ mx_cnt (mx_say u pt mo w) (u 0) = 0 := by
  constructor
  · intro h
    refine mx_cnt_z (fun k hk => ?_)
    cases hs : mx_say u pt mo w k
    · rfl
    · exfalso
      have g := (hu.2.1 k hk).2.2.2.2.2.2.2.1
      have a1 := mx_sum_pos (v := fun k => mx_p u k 6) hk hs
      have a2 := mx_max_pos (v := fun k => mx_p u k 6) hk hs
      have a3 := mx_cnt_pos hk hs
      unfold mx_vo mx_rule at h
      repeat (first | omega | split at h)
  · intro h
    have hz : ∀ k, k < u 0 → mx_say u pt mo w k = false := fun k hk => by
      cases hs : mx_say u pt mo w k
      · rfl
      · have := mx_cnt_pos hk hs; omega
    unfold mx_vo mx_rule
    rw [mx_sum_z hz, mx_max_z hz, mx_cnt_z hz]
    split
    · rfl
    · split <;> rfl
theorem mx_told_n {u : Nat → Nat} {pt mo : Nat} (hu : mx_ok u) : mx_told u pt mo = none ↔ mx_sa u pt mo = 0 := by
  constructor
  · intro h
    refine mx_cnt_z (fun k hk => ?_)
    cases hs : mx_sp u k pt mo
    · rfl
    · exfalso
      have g4 := (hu.2.1 k hk).2.2.2.2.1
      have h0 := mx_best_no h (mx_p u k 4) g4
      rw [mx_vo_z hu] at h0
      have := mx_cnt_pos (f := mx_say u pt mo (mx_p u k 4)) hk (by unfold mx_say; rw [hs]; simp)
      omega
  · intro h
    cases ht : mx_told u pt mo with
    | none => rfl
    | some b =>
      exfalso
      have hp := (mx_best_is ht).1
      have hc : mx_cnt (mx_say u pt mo b) (u 0) = 0 := mx_cnt_z (fun k hk => by
        cases hs : mx_say u pt mo b k
        · rfl
        · exfalso
          unfold mx_say at hs
          have h2 : mx_sp u k pt mo = true := by cases q : mx_sp u k pt mo; simp [q] at hs; rfl
          have := mx_cnt_pos (f := fun k => mx_sp u k pt mo) hk h2
          unfold mx_sa at h; omega)
      rw [← mx_vo_z hu] at hc
      omega
/-- all agrees -/
def mx_ag2 (u : Nat → Nat) : Prop :=
  (∀ a b, a < 24 → b < 24 → u (265 + 24 * a + b) = u (265 + 24 * b + a) ∧ u (841 + 24 * a + b) + u (841 + 24 * b + a) ≤ u (265 + 24 * a + b)) ∧
  mx_sum (fun _ => true) (fun k => mx_p u k 7) (u 0) = u 12 ∧ mx_sum (fun _ => true) (fun k => mx_p u k 8) (u 0) = u 13 ∧
  (∀ k, k < 4 → u (17 + k) + u (21 + k) = u (8 + k)) ∧ u 8 = u 2 ∧ u 8 = u 9 + u 10 + u 11
theorem nI_nn {k : Nat} (h : k < 2147483648) : ¬ nI k < 0 := by
  rw [Int32.lt_iff_toInt_lt, nI_toInt h]
  have e : (0 : Int32).toInt = 0 := by decide
  omega
set_option maxHeartbeats 1000000 in
theorem mt_X4_year {l : Launch} {G : kx_G} (htr : l.stackTraces = false) {σ : kx_H} {mo : Nat} {ad : Nat → Nat} {z : Nat → Int32} {u : Nat → Nat} {x y : Int32} (h0 : σ (1, 0) = some (mo, .inr (3, mo_L ad z))) (hw : σ (1, 1) = some (ad 0, kx_ai G 1417 (mx_w u))) : kx_SP l G yX4_year (ws_ yX4_year cX4_year 3 (some .int)) 2 0 0 [.ref mo, .int x, .int y] σ (fun v τ => v = some (.int (an_year u x y).2) ∧ τ = kx_up σ (1, 0) (mo, .inr (3, mo_L ad (mo_z z 9 (nI (an_year u x y).1))))) kx_nx := by
  refine kx_body htr (by decide +kernel) (own := "RoseProverbsModel") (nm := "year") rfl rfl (Nat.le_of_ble_eq_true rfl) ?_
  intro p e s m args below meth c Q C hQ
  first | refine ri_aload_n C dX4_year_0 rfl ?_ | refine ri_aload_nQ C dX4_year_0 rfl ?_ | refine ri_aload_nN C dX4_year_0 rfl ?_
  refine ri_iconst C dX4_year_1 kc_i0 ?_
  refine ri_putf C dX4_year_2 fd_q2979_3 (fun h => nomatch h) (by first | assumption | (repeat (first | assumption | exact kx_rs (by assumption) | exact kx_ne2 (by omega) | exact kx_ne1 (by omega) | refine kx_ro (by assumption) ?_ ?_ | exact kx_rs rfl | refine kx_ro rfl ?_ ?_))) (Nat.le_of_ble_eq_true rfl) (by rfl) (by rfl) mo_set9 (fun s2 e2 => ?_)
  cases c1 : mx_ix x 2
  · first | refine ri_aload_n C dX4_year_5 rfl ?_ | refine ri_aload_nQ C dX4_year_5 rfl ?_ | refine ri_aload_nN C dX4_year_5 rfl ?_
    refine ri_iload_n C dX4_year_6 rfl ?_
    refine ri_iconst C dX4_year_7 kc_i0 ?_
    refine ri_iconst C dX4_year_8 kc_i1 ?_
    refine ri_callS C km_X4_inRange q3071 dX4_year_9 (mt_X4_inRange htr) rfl rfl ⟨⟨(Nat.le_of_ble_eq_true rfl), (Nat.le_of_ble_eq_true rfl)⟩, (Nat.le_of_ble_eq_true rfl), (Nat.le_of_ble_eq_true rfl), (Nat.le_of_ble_eq_true rfl)⟩ (fun v9 s9 h9 => ?_) (fun _ _ _ h => h.elim)
    obtain ⟨rfl, rfl⟩ := h9
    rw [mx_ix_0 (by decide), c1]
    first | refine ri_if_eqB C 24 dX4_year_12 rfl (fun h12 => ?_) (fun h12 => ?_) | refine ri_if_eqN C 24 dX4_year_12 rfl (by omega) (fun h12 => ?_) (fun h12 => ?_) | refine ri_if_eq C 24 dX4_year_12 rfl (fun h12 => ?_) (fun h12 => ?_)
    · refine ri_iconst C dX4_year_24 kc_i1 ?_
      refine ri_goto C 29 dX4_year_25 rfl ?_
      refine ri_iconst C dX4_year_29 kc_i1 ?_
      refine ri_callV C km_X4_fails q3303 qs106 dX4_year_30 (mt_X4_fails htr (b := true) (by first | assumption | (repeat (first | assumption | exact kx_rs (by assumption) | exact kx_ne2 (by omega) | exact kx_ne1 (by omega) | refine kx_ro (by assumption) ?_ ?_ | exact kx_rs rfl | refine kx_ro rfl ?_ ?_)))) rfl rfl (kx_rcN C (by first | assumption | (repeat (first | assumption | exact kx_rs (by assumption) | exact kx_ne2 (by omega) | exact kx_ne1 (by omega) | refine kx_ro (by assumption) ?_ ?_ | exact kx_rs rfl | refine kx_ro rfl ?_ ?_))) rfl) ⟨⟨(Nat.le_of_ble_eq_true rfl), (Nat.le_of_ble_eq_true rfl)⟩, (Nat.le_of_ble_eq_true rfl), (Nat.le_of_ble_eq_true rfl), (Nat.le_of_ble_eq_true rfl)⟩ (fun v30 s30 h30 => ?_) (fun _ _ _ h => h.elim)
      obtain ⟨rfl, e30⟩ := h30
      rw [cond_true] at e30
      first | refine ri_if_eqB C 40 dX4_year_33 rfl (fun h33 => ?_) (fun h33 => ?_) | refine ri_if_eqN C 40 dX4_year_33 rfl (by omega) (fun h33 => ?_) (fun h33 => ?_) | refine ri_if_eq C 40 dX4_year_33 rfl (fun h33 => ?_) (fun h33 => ?_)
      · exact absurd h33 (by decide) --dead
      · refine ri_iconst C dX4_year_36 kc_i0 ?_
        refine ri_goto C 53 dX4_year_37 rfl ?_
        exact ri_iret C hQ dX4_year_53 (by first | rfl | exact kx_b_nar _) (Nat.le_of_ble_eq_true rfl) (Nat.le_of_ble_eq_true rfl) (by constructor <;> first | (simp only [an_year, an_c, *, Bool.and_true, Bool.and_false, Bool.true_and, Bool.false_and, cond_true, cond_false, kx_up_u, mo_z_z]; done) | (simp only [an_year, an_c, *, Bool.and_true, Bool.and_false, Bool.true_and, Bool.false_and, cond_true, cond_false, kx_up_u, mo_z_z]; rfl))
    · exact absurd h12 (by decide) --dead
  · obtain ⟨k1, hk1, rfl⟩ := mx_ix_t c1
    have nk1 : mx_n (nI k1) = k1 := mx_n_nI (by omega)
    first | refine ri_aload_n C dX4_year_5 rfl ?_ | refine ri_aload_nQ C dX4_year_5 rfl ?_ | refine ri_aload_nN C dX4_year_5 rfl ?_
    refine ri_iload_n C dX4_year_6 rfl ?_
    refine ri_iconst C dX4_year_7 kc_i0 ?_
    refine ri_iconst C dX4_year_8 kc_i1 ?_
    refine ri_callS C km_X4_inRange q3071 dX4_year_9 (mt_X4_inRange htr) rfl rfl ⟨⟨(Nat.le_of_ble_eq_true rfl), (Nat.le_of_ble_eq_true rfl)⟩, (Nat.le_of_ble_eq_true rfl), (Nat.le_of_ble_eq_true rfl), (Nat.le_of_ble_eq_true rfl)⟩ (fun v9 s9 h9 => ?_) (fun _ _ _ h => h.elim)
    obtain ⟨rfl, rfl⟩ := h9
    rw [mx_ix_0 (by decide), c1]
    first | refine ri_if_eqB C 24 dX4_year_12 rfl (fun h12 => ?_) (fun h12 => ?_) | refine ri_if_eqN C 24 dX4_year_12 rfl (by omega) (fun h12 => ?_) (fun h12 => ?_) | refine ri_if_eq C 24 dX4_year_12 rfl (fun h12 => ?_) (fun h12 => ?_)
    · exact absurd h12 (by decide) --dead
    · refine ri_iload_n C dX4_year_15 rfl ?_
      refine ri_iconst C dX4_year_16 kc_i0 ?_
      refine ri_iconst C dX4_year_17 kc_i3 ?_
      cases c2 : mx_ix y 4
      · refine ri_callS C km_X4_inRange q3071 dX4_year_18 (mt_X4_inRange htr) rfl rfl ⟨⟨(Nat.le_of_ble_eq_true rfl), (Nat.le_of_ble_eq_true rfl)⟩, (Nat.le_of_ble_eq_true rfl), (Nat.le_of_ble_eq_true rfl), (Nat.le_of_ble_eq_true rfl)⟩ (fun v18 s18 h18 => ?_) (fun _ _ _ h => h.elim)
        obtain ⟨rfl, rfl⟩ := h18
        rw [mx_ix_0 (by decide), c2]
        first | refine ri_if_neB C 28 dX4_year_21 rfl (fun h21 => ?_) (fun h21 => ?_) | refine ri_if_neN C 28 dX4_year_21 rfl (by omega) (fun h21 => ?_) (fun h21 => ?_) | refine ri_if_ne C 28 dX4_year_21 rfl (fun h21 => ?_) (fun h21 => ?_)
        · exact absurd h21 (by decide) --dead
        · refine ri_iconst C dX4_year_24 kc_i1 ?_
          refine ri_goto C 29 dX4_year_25 rfl ?_
          refine ri_iconst C dX4_year_29 kc_i1 ?_
          refine ri_callV C km_X4_fails q3303 qs106 dX4_year_30 (mt_X4_fails htr (b := true) (by first | assumption | (repeat (first | assumption | exact kx_rs (by assumption) | exact kx_ne2 (by omega) | exact kx_ne1 (by omega) | refine kx_ro (by assumption) ?_ ?_ | exact kx_rs rfl | refine kx_ro rfl ?_ ?_)))) rfl rfl (kx_rcN C (by first | assumption | (repeat (first | assumption | exact kx_rs (by assumption) | exact kx_ne2 (by omega) | exact kx_ne1 (by omega) | refine kx_ro (by assumption) ?_ ?_ | exact kx_rs rfl | refine kx_ro rfl ?_ ?_))) rfl) ⟨⟨(Nat.le_of_ble_eq_true rfl), (Nat.le_of_ble_eq_true rfl)⟩, (Nat.le_of_ble_eq_true rfl), (Nat.le_of_ble_eq_true rfl), (Nat.le_of_ble_eq_true rfl)⟩ (fun v30 s30 h30 => ?_) (fun _ _ _ h => h.elim)
          obtain ⟨rfl, e30⟩ := h30
          rw [cond_true] at e30
          first | refine ri_if_eqB C 40 dX4_year_33 rfl (fun h33 => ?_) (fun h33 => ?_) | refine ri_if_eqN C 40 dX4_year_33 rfl (by omega) (fun h33 => ?_) (fun h33 => ?_) | refine ri_if_eq C 40 dX4_year_33 rfl (fun h33 => ?_) (fun h33 => ?_)
          · exact absurd h33 (by decide) --dead
          · refine ri_iconst C dX4_year_36 kc_i0 ?_
            refine ri_goto C 53 dX4_year_37 rfl ?_
            exact ri_iret C hQ dX4_year_53 (by first | rfl | exact kx_b_nar _) (Nat.le_of_ble_eq_true rfl) (Nat.le_of_ble_eq_true rfl) (by constructor <;> first | (simp only [an_year, an_c, *, Bool.and_true, Bool.and_false, Bool.true_and, Bool.false_and, cond_true, cond_false, kx_up_u, mo_z_z]; done) | (simp only [an_year, an_c, *, Bool.and_true, Bool.and_false, Bool.true_and, Bool.false_and, cond_true, cond_false, kx_up_u, mo_z_z]; rfl))
      · obtain ⟨k2, hk2, rfl⟩ := mx_ix_t c2
        have nk2 : mx_n (nI k2) = k2 := mx_n_nI (by omega)
        refine ri_callS C km_X4_inRange q3071 dX4_year_18 (mt_X4_inRange htr) rfl rfl ⟨⟨(Nat.le_of_ble_eq_true rfl), (Nat.le_of_ble_eq_true rfl)⟩, (Nat.le_of_ble_eq_true rfl), (Nat.le_of_ble_eq_true rfl), (Nat.le_of_ble_eq_true rfl)⟩ (fun v18 s18 h18 => ?_) (fun _ _ _ h => h.elim)
        obtain ⟨rfl, rfl⟩ := h18
        rw [mx_ix_0 (by decide), c2]
        first | refine ri_if_neB C 28 dX4_year_21 rfl (fun h21 => ?_) (fun h21 => ?_) | refine ri_if_neN C 28 dX4_year_21 rfl (by omega) (fun h21 => ?_) (fun h21 => ?_) | refine ri_if_ne C 28 dX4_year_21 rfl (fun h21 => ?_) (fun h21 => ?_)
        · refine ri_iconst C dX4_year_28 kc_i0 ?_
          refine ri_iconst C dX4_year_29 kc_i1 ?_
          refine ri_callV C km_X4_fails q3303 qs106 dX4_year_30 (mt_X4_fails htr (b := false) (by first | assumption | (repeat (first | assumption | exact kx_rs (by assumption) | exact kx_ne2 (by omega) | exact kx_ne1 (by omega) | refine kx_ro (by assumption) ?_ ?_ | exact kx_rs rfl | refine kx_ro rfl ?_ ?_)))) rfl rfl (kx_rcN C (by first | assumption | (repeat (first | assumption | exact kx_rs (by assumption) | exact kx_ne2 (by omega) | exact kx_ne1 (by omega) | refine kx_ro (by assumption) ?_ ?_ | exact kx_rs rfl | refine kx_ro rfl ?_ ?_))) rfl) ⟨⟨(Nat.le_of_ble_eq_true rfl), (Nat.le_of_ble_eq_true rfl)⟩, (Nat.le_of_ble_eq_true rfl), (Nat.le_of_ble_eq_true rfl), (Nat.le_of_ble_eq_true rfl)⟩ (fun v30 s30 h30 => ?_) (fun _ _ _ h => h.elim)
          obtain ⟨rfl, e30⟩ := h30
          rw [cond_false] at e30
          subst e30
          first | refine ri_if_eqB C 40 dX4_year_33 rfl (fun h33 => ?_) (fun h33 => ?_) | refine ri_if_eqN C 40 dX4_year_33 rfl (by omega) (fun h33 => ?_) (fun h33 => ?_) | refine ri_if_eq C 40 dX4_year_33 rfl (fun h33 => ?_) (fun h33 => ?_)
          · first | refine ri_aload_n C dX4_year_40 rfl ?_ | refine ri_aload_nQ C dX4_year_40 rfl ?_ | refine ri_aload_nN C dX4_year_40 rfl ?_
            refine ri_getf C dX4_year_41 fr_q2970_3 (by first | assumption | (repeat (first | assumption | exact kx_rs (by assumption) | exact kx_ne2 (by omega) | exact kx_ne1 (by omega) | refine kx_ro (by assumption) ?_ ?_ | exact kx_rs rfl | refine kx_ro rfl ?_ ?_))) (by rfl) ?_
            refine ri_bipush C dX4_year_44 kc_b17 ?_
            refine ri_iconst C dX4_year_46 kc_i4 ?_
            refine ri_iload_n C dX4_year_47 rfl ?_
            first | refine ri_imulN C dX4_year_48 ?_ | refine ri_imul C dX4_year_48 ?_
            first | refine ri_iaddN C dX4_year_49 ?_ | refine ri_iadd C dX4_year_49 ?_
            refine ri_iload_n C dX4_year_50 rfl ?_
            first | refine ri_iaddN C dX4_year_51 ?_ | refine ri_iadd C dX4_year_51 ?_
            first | refine ri_ialoadN C dX4_year_52 (by first | assumption | (repeat (first | assumption | exact kx_rs (by assumption) | exact kx_ne2 (by omega) | exact kx_ne1 (by omega) | refine kx_ro (by assumption) ?_ ?_ | exact kx_rs rfl | refine kx_ro rfl ?_ ?_))) rfl (by omega) ?_ | refine ri_iaload C dX4_year_52 (by first | assumption | (repeat (first | assumption | exact kx_rs (by assumption) | exact kx_ne2 (by omega) | exact kx_ne1 (by omega) | refine kx_ro (by assumption) ?_ ?_ | exact kx_rs rfl | refine kx_ro rfl ?_ ?_))) rfl (by omega) ?_
            exact ri_iret C hQ dX4_year_53 (by first | rfl | exact kx_b_nar _) (Nat.le_of_ble_eq_true rfl) (Nat.le_of_ble_eq_true rfl) (by constructor <;> first | (simp only [an_year, an_c, *, Bool.and_true, Bool.and_false, Bool.true_and, Bool.false_and, cond_true, cond_false, kx_up_u, mo_z_z]; done) | (simp only [an_year, an_c, *, Bool.and_true, Bool.and_false, Bool.true_and, Bool.false_and, cond_true, cond_false, kx_up_u, mo_z_z]; rfl))
          · exact absurd h33 (by decide) --dead
        · exact absurd h21 (by decide) --dead
set_option maxHeartbeats 1000000 in
theorem mt_X4_dayOf {l : Launch} {G : kx_G} (htr : l.stackTraces = false) {σ : kx_H} {mo : Nat} {ad : Nat → Nat} {z : Nat → Int32} {u : Nat → Nat} {L : Nat → Int32} {x y : Int32} (h0 : σ (1, 0) = some (mo, .inr (3, mo_L ad z))) (hw : σ (1, 1) = some (ad 0, kx_ai G 1417 (mx_w u))) (hl : σ (1, 6) = some (ad 5, kx_ai G 2160 L)) (hd : u 2 ≤ 720) : kx_SP l G yX4_dayOf (ws_ yX4_dayOf cX4_dayOf 3 (some .int)) 2 0 0 [.ref mo, .int x, .int y] σ (fun v τ => v = some (.int (an_dayOf u L x y).2) ∧ τ = kx_up σ (1, 0) (mo, .inr (3, mo_L ad (mo_z z 9 (nI (an_dayOf u L x y).1))))) kx_nx := by
  refine kx_body htr (by decide +kernel) (own := "RoseProverbsModel") (nm := "dayOf") rfl rfl (Nat.le_of_ble_eq_true rfl) ?_
  intro p e s m args below meth c Q C hQ
  first | refine ri_aload_n C dX4_dayOf_0 rfl ?_ | refine ri_aload_nQ C dX4_dayOf_0 rfl ?_ | refine ri_aload_nN C dX4_dayOf_0 rfl ?_
  refine ri_iconst C dX4_dayOf_1 kc_i0 ?_
  refine ri_putf C dX4_dayOf_2 fd_q2979_3 (fun h => nomatch h) (by first | assumption | (repeat (first | assumption | exact kx_rs (by assumption) | exact kx_ne2 (by omega) | exact kx_ne1 (by omega) | refine kx_ro (by assumption) ?_ ?_ | exact kx_rs rfl | refine kx_ro rfl ?_ ?_))) (Nat.le_of_ble_eq_true rfl) (by rfl) (by rfl) mo_set9 (fun s2 e2 => ?_)
  first | refine ri_aload_n C dX4_dayOf_5 rfl ?_ | refine ri_aload_nQ C dX4_dayOf_5 rfl ?_ | refine ri_aload_nN C dX4_dayOf_5 rfl ?_
  refine ri_iload_n C dX4_dayOf_6 rfl ?_
  refine ri_iconst C dX4_dayOf_7 kc_i0 ?_
  refine ri_iconst C dX4_dayOf_8 kc_i2 ?_
  cases c2 : mx_ix y 3
  · refine ri_callS C km_X4_inRange q3071 dX4_dayOf_9 (mt_X4_inRange htr) rfl rfl ⟨⟨(Nat.le_of_ble_eq_true rfl), (Nat.le_of_ble_eq_true rfl)⟩, (Nat.le_of_ble_eq_true rfl), (Nat.le_of_ble_eq_true rfl), (Nat.le_of_ble_eq_true rfl)⟩ (fun v9 s9 h9 => ?_) (fun _ _ _ h => h.elim)
    obtain ⟨rfl, rfl⟩ := h9
    rw [mx_ix_0 (by decide), c2]
    first | refine ri_if_neB C 19 dX4_dayOf_12 rfl (fun h12 => ?_) (fun h12 => ?_) | refine ri_if_neN C 19 dX4_dayOf_12 rfl (by omega) (fun h12 => ?_) (fun h12 => ?_) | refine ri_if_ne C 19 dX4_dayOf_12 rfl (fun h12 => ?_) (fun h12 => ?_)
    · exact absurd h12 (by decide) --dead
    · refine ri_iconst C dX4_dayOf_15 kc_i1 ?_
      refine ri_goto C 20 dX4_dayOf_16 rfl ?_
      refine ri_iconst C dX4_dayOf_20 kc_i1 ?_
      refine ri_callV C km_X4_fails q3303 qs106 dX4_dayOf_21 (mt_X4_fails htr (b := true) (by first | assumption | (repeat (first | assumption | exact kx_rs (by assumption) | exact kx_ne2 (by omega) | exact kx_ne1 (by omega) | refine kx_ro (by assumption) ?_ ?_ | exact kx_rs rfl | refine kx_ro rfl ?_ ?_)))) rfl rfl (kx_rcN C (by first | assumption | (repeat (first | assumption | exact kx_rs (by assumption) | exact kx_ne2 (by omega) | exact kx_ne1 (by omega) | refine kx_ro (by assumption) ?_ ?_ | exact kx_rs rfl | refine kx_ro rfl ?_ ?_))) rfl) ⟨⟨(Nat.le_of_ble_eq_true rfl), (Nat.le_of_ble_eq_true rfl)⟩, (Nat.le_of_ble_eq_true rfl), (Nat.le_of_ble_eq_true rfl), (Nat.le_of_ble_eq_true rfl)⟩ (fun v21 s21 h21 => ?_) (fun _ _ _ h => h.elim)
      obtain ⟨rfl, e21⟩ := h21
      rw [cond_true] at e21
      first | refine ri_if_eqB C 29 dX4_dayOf_24 rfl (fun h24 => ?_) (fun h24 => ?_) | refine ri_if_eqN C 29 dX4_dayOf_24 rfl (by omega) (fun h24 => ?_) (fun h24 => ?_) | refine ri_if_eq C 29 dX4_dayOf_24 rfl (fun h24 => ?_) (fun h24 => ?_)
      · exact absurd h24 (by decide) --dead
      · refine ri_iconst C dX4_dayOf_27 kc_i0 ?_
        exact ri_iret C hQ dX4_dayOf_28 (by first | rfl | exact kx_b_nar _) (Nat.le_of_ble_eq_true rfl) (Nat.le_of_ble_eq_true rfl) (by constructor <;> first | (simp only [an_dayOf, an_c, *, Bool.and_true, Bool.and_false, Bool.true_and, Bool.false_and, cond_true, cond_false, kx_up_u, mo_z_z]; done) | (simp only [an_dayOf, an_c, *, Bool.and_true, Bool.and_false, Bool.true_and, Bool.false_and, cond_true, cond_false, kx_up_u, mo_z_z]; rfl))
  · obtain ⟨k2, hk2, rfl⟩ := mx_ix_t c2
    have nk2 : mx_n (nI k2) = k2 := mx_n_nI (by omega)
    refine ri_callS C km_X4_inRange q3071 dX4_dayOf_9 (mt_X4_inRange htr) rfl rfl ⟨⟨(Nat.le_of_ble_eq_true rfl), (Nat.le_of_ble_eq_true rfl)⟩, (Nat.le_of_ble_eq_true rfl), (Nat.le_of_ble_eq_true rfl), (Nat.le_of_ble_eq_true rfl)⟩ (fun v9 s9 h9 => ?_) (fun _ _ _ h => h.elim)
    obtain ⟨rfl, rfl⟩ := h9
    rw [mx_ix_0 (by decide), c2]
    first | refine ri_if_neB C 19 dX4_dayOf_12 rfl (fun h12 => ?_) (fun h12 => ?_) | refine ri_if_neN C 19 dX4_dayOf_12 rfl (by omega) (fun h12 => ?_) (fun h12 => ?_) | refine ri_if_ne C 19 dX4_dayOf_12 rfl (fun h12 => ?_) (fun h12 => ?_)
    · refine ri_iconst C dX4_dayOf_19 kc_i0 ?_
      refine ri_iconst C dX4_dayOf_20 kc_i1 ?_
      refine ri_callV C km_X4_fails q3303 qs106 dX4_dayOf_21 (mt_X4_fails htr (b := false) (by first | assumption | (repeat (first | assumption | exact kx_rs (by assumption) | exact kx_ne2 (by omega) | exact kx_ne1 (by omega) | refine kx_ro (by assumption) ?_ ?_ | exact kx_rs rfl | refine kx_ro rfl ?_ ?_)))) rfl rfl (kx_rcN C (by first | assumption | (repeat (first | assumption | exact kx_rs (by assumption) | exact kx_ne2 (by omega) | exact kx_ne1 (by omega) | refine kx_ro (by assumption) ?_ ?_ | exact kx_rs rfl | refine kx_ro rfl ?_ ?_))) rfl) ⟨⟨(Nat.le_of_ble_eq_true rfl), (Nat.le_of_ble_eq_true rfl)⟩, (Nat.le_of_ble_eq_true rfl), (Nat.le_of_ble_eq_true rfl), (Nat.le_of_ble_eq_true rfl)⟩ (fun v21 s21 h21 => ?_) (fun _ _ _ h => h.elim)
      obtain ⟨rfl, e21⟩ := h21
      rw [cond_false] at e21
      subst e21
      first | refine ri_if_eqB C 29 dX4_dayOf_24 rfl (fun h24 => ?_) (fun h24 => ?_) | refine ri_if_eqN C 29 dX4_dayOf_24 rfl (by omega) (fun h24 => ?_) (fun h24 => ?_) | refine ri_if_eq C 29 dX4_dayOf_24 rfl (fun h24 => ?_) (fun h24 => ?_)
      · cases c1 : mx_ix x (u 2)
        · refine ri_iload_n C dX4_dayOf_29 rfl ?_
          refine ri_iconst C dX4_dayOf_30 kc_i0 ?_
          first | refine ri_aload_n C dX4_dayOf_31 rfl ?_ | refine ri_aload_nQ C dX4_dayOf_31 rfl ?_ | refine ri_aload_nN C dX4_dayOf_31 rfl ?_
          refine ri_getf C dX4_dayOf_32 fr_q2970_3 (by first | assumption | (repeat (first | assumption | exact kx_rs (by assumption) | exact kx_ne2 (by omega) | exact kx_ne1 (by omega) | refine kx_ro (by assumption) ?_ ?_ | exact kx_rs rfl | refine kx_ro rfl ?_ ?_))) (by rfl) ?_
          refine ri_iconst C dX4_dayOf_35 kc_i2 ?_
          first | refine ri_ialoadN C dX4_dayOf_36 (by first | assumption | (repeat (first | assumption | exact kx_rs (by assumption) | exact kx_ne2 (by omega) | exact kx_ne1 (by omega) | refine kx_ro (by assumption) ?_ ?_ | exact kx_rs rfl | refine kx_ro rfl ?_ ?_))) rfl (by omega) ?_ | refine ri_iaload C dX4_dayOf_36 (by first | assumption | (repeat (first | assumption | exact kx_rs (by assumption) | exact kx_ne2 (by omega) | exact kx_ne1 (by omega) | refine kx_ro (by assumption) ?_ ?_ | exact kx_rs rfl | refine kx_ro rfl ?_ ?_))) rfl (by omega) ?_
          refine ri_iconst C dX4_dayOf_37 kc_i1 ?_
          refine ri_isub C dX4_dayOf_38 ?_
          refine ri_callS C km_X4_inRange q3071 dX4_dayOf_39 (mt_X4_inRange htr) rfl rfl ⟨⟨(Nat.le_of_ble_eq_true rfl), (Nat.le_of_ble_eq_true rfl)⟩, (Nat.le_of_ble_eq_true rfl), (Nat.le_of_ble_eq_true rfl), (Nat.le_of_ble_eq_true rfl)⟩ (fun v39 s39 h39 => ?_) (fun _ _ _ h => h.elim)
          obtain ⟨rfl, rfl⟩ := h39
          rw [mx_ix_m (by omega), c1]
          first | refine ri_if_eqB C 58 dX4_dayOf_42 rfl (fun h42 => ?_) (fun h42 => ?_) | refine ri_if_eqN C 58 dX4_dayOf_42 rfl (by omega) (fun h42 => ?_) (fun h42 => ?_) | refine ri_if_eq C 58 dX4_dayOf_42 rfl (fun h42 => ?_) (fun h42 => ?_)
          · refine ri_iconst C dX4_dayOf_58 kc_im1 ?_
            exact ri_iret C hQ dX4_dayOf_59 (by first | rfl | exact kx_b_nar _) (Nat.le_of_ble_eq_true rfl) (Nat.le_of_ble_eq_true rfl) (by constructor <;> first | (simp only [an_dayOf, an_c, *, Bool.and_true, Bool.and_false, Bool.true_and, Bool.false_and, cond_true, cond_false, kx_up_u, mo_z_z]; done) | (simp only [an_dayOf, an_c, *, Bool.and_true, Bool.and_false, Bool.true_and, Bool.false_and, cond_true, cond_false, kx_up_u, mo_z_z]; rfl))
          · exact absurd h42 (by decide) --dead
        · obtain ⟨k1, hk1, rfl⟩ := mx_ix_t c1
          have nk1 : mx_n (nI k1) = k1 := mx_n_nI (by omega)
          refine ri_iload_n C dX4_dayOf_29 rfl ?_
          refine ri_iconst C dX4_dayOf_30 kc_i0 ?_
          first | refine ri_aload_n C dX4_dayOf_31 rfl ?_ | refine ri_aload_nQ C dX4_dayOf_31 rfl ?_ | refine ri_aload_nN C dX4_dayOf_31 rfl ?_
          refine ri_getf C dX4_dayOf_32 fr_q2970_3 (by first | assumption | (repeat (first | assumption | exact kx_rs (by assumption) | exact kx_ne2 (by omega) | exact kx_ne1 (by omega) | refine kx_ro (by assumption) ?_ ?_ | exact kx_rs rfl | refine kx_ro rfl ?_ ?_))) (by rfl) ?_
          refine ri_iconst C dX4_dayOf_35 kc_i2 ?_
          first | refine ri_ialoadN C dX4_dayOf_36 (by first | assumption | (repeat (first | assumption | exact kx_rs (by assumption) | exact kx_ne2 (by omega) | exact kx_ne1 (by omega) | refine kx_ro (by assumption) ?_ ?_ | exact kx_rs rfl | refine kx_ro rfl ?_ ?_))) rfl (by omega) ?_ | refine ri_iaload C dX4_dayOf_36 (by first | assumption | (repeat (first | assumption | exact kx_rs (by assumption) | exact kx_ne2 (by omega) | exact kx_ne1 (by omega) | refine kx_ro (by assumption) ?_ ?_ | exact kx_rs rfl | refine kx_ro rfl ?_ ?_))) rfl (by omega) ?_
          refine ri_iconst C dX4_dayOf_37 kc_i1 ?_
          refine ri_isub C dX4_dayOf_38 ?_
          refine ri_callS C km_X4_inRange q3071 dX4_dayOf_39 (mt_X4_inRange htr) rfl rfl ⟨⟨(Nat.le_of_ble_eq_true rfl), (Nat.le_of_ble_eq_true rfl)⟩, (Nat.le_of_ble_eq_true rfl), (Nat.le_of_ble_eq_true rfl), (Nat.le_of_ble_eq_true rfl)⟩ (fun v39 s39 h39 => ?_) (fun _ _ _ h => h.elim)
          obtain ⟨rfl, rfl⟩ := h39
          rw [mx_ix_m (by omega), c1]
          first | refine ri_if_eqB C 58 dX4_dayOf_42 rfl (fun h42 => ?_) (fun h42 => ?_) | refine ri_if_eqN C 58 dX4_dayOf_42 rfl (by omega) (fun h42 => ?_) (fun h42 => ?_) | refine ri_if_eq C 58 dX4_dayOf_42 rfl (fun h42 => ?_) (fun h42 => ?_)
          · exact absurd h42 (by decide) --dead
          · first | refine ri_aload_n C dX4_dayOf_45 rfl ?_ | refine ri_aload_nQ C dX4_dayOf_45 rfl ?_ | refine ri_aload_nN C dX4_dayOf_45 rfl ?_
            refine ri_getf C dX4_dayOf_46 fr_q2975_3 (by first | assumption | (repeat (first | assumption | exact kx_rs (by assumption) | exact kx_ne2 (by omega) | exact kx_ne1 (by omega) | refine kx_ro (by assumption) ?_ ?_ | exact kx_rs rfl | refine kx_ro rfl ?_ ?_))) (by rfl) ?_
            refine ri_iconst C dX4_dayOf_49 kc_i3 ?_
            refine ri_iload_n C dX4_dayOf_50 rfl ?_
            first | refine ri_imulN C dX4_dayOf_51 ?_ | refine ri_imul C dX4_dayOf_51 ?_
            refine ri_iload_n C dX4_dayOf_52 rfl ?_
            first | refine ri_iaddN C dX4_dayOf_53 ?_ | refine ri_iadd C dX4_dayOf_53 ?_
            refine ri_iaload C dX4_dayOf_54 (by first | assumption | (repeat (first | assumption | exact kx_rs (by assumption) | exact kx_ne2 (by omega) | exact kx_ne1 (by omega) | refine kx_ro (by assumption) ?_ ?_ | exact kx_rs rfl | refine kx_ro rfl ?_ ?_))) rfl (by omega) ?_
            refine ri_goto C 59 dX4_dayOf_55 rfl ?_
            exact ri_iret C hQ dX4_dayOf_59 (by first | rfl | exact kx_b_nar _) (Nat.le_of_ble_eq_true rfl) (Nat.le_of_ble_eq_true rfl) (by constructor <;> first | (simp only [an_dayOf, an_c, *, Bool.and_true, Bool.and_false, Bool.true_and, Bool.false_and, cond_true, cond_false, kx_up_u, mo_z_z]; done) | (simp only [an_dayOf, an_c, *, Bool.and_true, Bool.and_false, Bool.true_and, Bool.false_and, cond_true, cond_false, kx_up_u, mo_z_z]; rfl))
      · exact absurd h24 (by decide) --dead
    · exact absurd h12 (by decide) --dead
theorem kx_m1 {x : Int32} : x + Int32.ofInt (-1) = x - nI 1 := by rw [Int32.sub_eq_add_neg]; rfl
theorem kx_s1 {j : Nat} (h : j < 99999) : nI (j + 1) - nI 1 = nI j := by
  apply Int32.toInt_inj.mp
  rw [nI_sub1 (n := j + 1) (by omega), nI_toInt (by omega)]; omega
set_option maxHeartbeats 1000000 in
theorem mt_X4_isToldRight {l : Launch} {G : kx_G} (htr : l.stackTraces = false) {σ : kx_H} {mo : Nat} {ad : Nat → Nat} {z : Nat → Int32} {u : Nat → Nat} {pt mn : Nat} (h0 : σ (1, 0) = some (mo, .inr (3, mo_L ad z))) (hw : σ (1, 1) = some (ad 0, kx_ai G 1417 (mx_w u))) (hu : mx_ok u) (hp : pt < 16) (hm : mn < 12) : kx_SP l G yX4_isToldRight (ws_ yX4_isToldRight cX4_isToldRight 11 (some .boolean)) 8 0 0 [.ref mo, .int (nI pt), .int (nI mn)] σ (fun v τ => v = some (.int (nI 1)) ∧ τ = σ) kx_nx := by
  refine kx_body htr (by decide +kernel) (own := "RoseProverbsModel") (nm := "isToldRight") rfl rfl (Nat.le_of_ble_eq_true rfl) ?_
  intro p e s m args below meth c Q C hQ
  have gn := hu.1
  have g5 := hu.2.2.1
  first | refine ri_aload_n C dX4_isToldRight_0 rfl ?_ | refine ri_aload_nQ C dX4_isToldRight_0 rfl ?_ | refine ri_aload_nN C dX4_isToldRight_0 rfl ?_
  refine ri_iload_n C dX4_isToldRight_1 rfl ?_
  refine ri_iload_n C dX4_isToldRight_2 rfl ?_
  refine ri_callV C km_X4_toldAt q3213 qs90 dX4_isToldRight_3 (mt_X4_toldAt htr h0 hw hu hp hm) rfl rfl (kx_rcN C (by first | assumption | (repeat (first | assumption | exact kx_rs (by assumption) | exact kx_ne2 (by omega) | exact kx_ne1 (by omega) | refine kx_ro (by assumption) ?_ ?_ | exact kx_rs rfl | refine kx_ro rfl ?_ ?_))) rfl) ⟨⟨(Nat.le_of_ble_eq_true rfl), (Nat.le_of_ble_eq_true rfl)⟩, (Nat.le_of_ble_eq_true rfl), (Nat.le_of_ble_eq_true rfl), (Nat.le_of_ble_eq_true rfl)⟩ (fun v3 s3 h3 => ?_) (fun _ _ _ h => h.elim)
  obtain ⟨rfl, rfl⟩ := h3
  have vle : ∀ w, mx_vo u pt mn w ≤ 30000 := fun w => mx_vo_le hu
  have sle : mx_sa u pt mn ≤ u 0 := mx_cnt_le
  refine ri_istore_n C dX4_isToldRight_6 rfl (by decide) ?_
  refine ri_iload_n C dX4_isToldRight_7 rfl ?_
  refine ri_iconst C dX4_isToldRight_8 kc_im1 ?_
  refine ri_icmp_ne C 27 dX4_isToldRight_9 rfl (fun h9 => ?_) (fun h9 => ?_)
  · obtain ⟨b, ht⟩ : ∃ b, mx_told u pt mn = some b := (by cases ht : mx_told u pt mn with | none => rw [ht] at h9; exact absurd rfl h9 | some b => exact ⟨b, rfl⟩)
    have b5 := mx_told_b ht
    have hb := mx_best_is ht
    rw [ht]
    first | refine ri_aload_n C dX4_isToldRight_27 rfl ?_ | refine ri_aload_nQ C dX4_isToldRight_27 rfl ?_ | refine ri_aload_nN C dX4_isToldRight_27 rfl ?_
    refine ri_iload_n C dX4_isToldRight_28 rfl ?_
    refine ri_iload_n C dX4_isToldRight_29 rfl ?_
    refine ri_iload_n C dX4_isToldRight_30 rfl ?_
    refine ri_callV C km_X4_voiceOf q3217 qs91 dX4_isToldRight_31 (mt_X4_voiceOf htr h0 hw hu hp hm b5) rfl rfl (kx_rcN C (by first | assumption | (repeat (first | assumption | exact kx_rs (by assumption) | exact kx_ne2 (by omega) | exact kx_ne1 (by omega) | refine kx_ro (by assumption) ?_ ?_ | exact kx_rs rfl | refine kx_ro rfl ?_ ?_))) rfl) ⟨⟨(Nat.le_of_ble_eq_true rfl), (Nat.le_of_ble_eq_true rfl)⟩, (Nat.le_of_ble_eq_true rfl), (Nat.le_of_ble_eq_true rfl), (Nat.le_of_ble_eq_true rfl)⟩ (fun v31 s31 h31 => ?_) (fun _ _ _ h => h.elim)
    obtain ⟨rfl, rfl⟩ := h31
    have vb := vle b
    refine ri_istore C dX4_isToldRight_34 rfl (by decide) ?_
    refine ri_iconst C dX4_isToldRight_36 kc_i0 ?_
    refine ri_istore C dX4_isToldRight_37 rfl (by decide) ?_
    have LP : ∀ (wk i : Nat) , i ≤ 5 → 5 < i + wk → kx_V G l p e (kx_rm 8 0 0) s m args below meth c 11 Q 39 [(0, .ref mo), (1, .int (nI pt)), (2, .int (nI mn)), (3, .int (nI b)), (4, .int (nI (mx_vo u pt mn b))), (5, .int (nI i))] [] s31 0 0 := by
      intro wk
      induction wk with
      | zero => intro i  h1 h2; exact absurd h2 (by omega)
      | succ wk ih =>
        intro i  hi hwk 
        have vi := vle i
        have gi := hb.2.1 i
        have gl := hb.2.2 i
        have mbx : mx_max (mx_say u pt mn i) (fun k => mx_p u k 6) (u 0) ≤ 999 := mx_max_le (fun k hk => (hu.2.1 k hk).2.2.2.2.2.2.2.2.1)
        refine ri_iload C dX4_isToldRight_39 rfl ?_
        refine ri_iconst C dX4_isToldRight_41 kc_i5 ?_
        first | refine ri_icmp_geN C 230 dX4_isToldRight_42 rfl (by omega) (by omega) (fun h42 => ?_) (fun h42 => ?_) | refine ri_icmp_ge C 230 dX4_isToldRight_42 rfl (fun h42 => ?_) (fun h42 => ?_)
        · refine ri_iconst C dX4_isToldRight_230 kc_i1 ?_
          exact ri_iret C hQ dX4_isToldRight_231 rfl (Nat.le_of_ble_eq_true rfl) (Nat.le_of_ble_eq_true rfl) (by refine ⟨congrArg (fun z => some (Value.int z)) ?_, rfl⟩; rfl)
        · refine ri_iconst C dX4_isToldRight_45 kc_i0 ?_
          refine ri_istore C dX4_isToldRight_46 rfl (by decide) ?_
          refine ri_iconst C dX4_isToldRight_48 kc_i0 ?_
          refine ri_istore C dX4_isToldRight_49 rfl (by decide) ?_
          refine ri_iconst C dX4_isToldRight_51 kc_i0 ?_
          refine ri_istore C dX4_isToldRight_52 rfl (by decide) ?_
          first | refine ri_aload_n C dX4_isToldRight_54 rfl ?_ | refine ri_aload_nQ C dX4_isToldRight_54 rfl ?_ | refine ri_aload_nN C dX4_isToldRight_54 rfl ?_
          refine ri_getf C dX4_isToldRight_55 fr_q2970_3 (by first | assumption | (repeat (first | assumption | exact kx_rs (by assumption) | exact kx_ne2 (by omega) | exact kx_ne1 (by omega) | refine kx_ro (by assumption) ?_ ?_ | exact kx_rs rfl | refine kx_ro rfl ?_ ?_))) (by rfl) ?_
          refine ri_iconst C dX4_isToldRight_58 kc_i0 ?_
          first | refine ri_ialoadN C dX4_isToldRight_59 (by first | assumption | (repeat (first | assumption | exact kx_rs (by assumption) | exact kx_ne2 (by omega) | exact kx_ne1 (by omega) | refine kx_ro (by assumption) ?_ ?_ | exact kx_rs rfl | refine kx_ro rfl ?_ ?_))) rfl (by omega) ?_ | refine ri_iaload C dX4_isToldRight_59 (by first | assumption | (repeat (first | assumption | exact kx_rs (by assumption) | exact kx_ne2 (by omega) | exact kx_ne1 (by omega) | refine kx_ro (by assumption) ?_ ?_ | exact kx_rs rfl | refine kx_ro rfl ?_ ?_))) rfl (by omega) ?_
          refine ri_iconst C dX4_isToldRight_60 kc_i1 ?_
          refine ri_isub C dX4_isToldRight_61 ?_
          refine ri_istore C dX4_isToldRight_62 rfl (by decide) ?_
          have LQ : ∀ (wkq q2 : Nat) (j x6 x7 x8 : Nat), q2 ≤ u 0 → u 0 < q2 + wkq → (j + q2 = u 0 ∧ x6 + mx_sum (mx_say u pt mn i) (fun k => mx_p u k 6) j = mx_sum (mx_say u pt mn i) (fun k => mx_p u k 6) (u 0) ∧ Nat.max x7 (mx_max (mx_say u pt mn i) (fun k => mx_p u k 6) j) = mx_max (mx_say u pt mn i) (fun k => mx_p u k 6) (u 0) ∧ x8 + mx_cnt (mx_say u pt mn i) j = mx_cnt (mx_say u pt mn i) (u 0)) → kx_V G l p e (kx_rm 8 0 0) s m args below meth c 11 Q 64 [(0, .ref mo), (1, .int (nI pt)), (2, .int (nI mn)), (3, .int (nI b)), (4, .int (nI (mx_vo u pt mn b))), (5, .int (nI i)), (6, .int (nI x6)), (7, .int (nI x7)), (8, .int (nI x8)), (9, .int (nI j - nI 1))] [] s31 0 0 := by
            intro wkq
            induction wkq with
            | zero => intro q2 j x6 x7 x8 h1q h2q; exact absurd h2q (by omega)
            | succ wkq ihq =>
              intro q2 j x6 x7 x8 hiq hwkq hJ
              obtain ⟨j0, j1, j2, j3⟩ := hJ
              have bx : x7 ≤ 999 := by rw [mx_mx] at j2; have := mbx; split at j2 <;> omega
              rcases j with _ | j
              · rw [show nI 0 - nI 1 = -1 by decide]
                have y6 : x6 = mx_sum (mx_say u pt mn i) (fun k => mx_p u k 6) (u 0) := j1
                have y7 : x7 = mx_max (mx_say u pt mn i) (fun k => mx_p u k 6) (u 0) := (Nat.max_zero _).symm.trans j2
                have y8 : x8 = mx_cnt (mx_say u pt mn i) (u 0) := j3
                have v0 : u 5 = 0 → mx_vo u pt mn i = x6 := fun h => by unfold mx_vo mx_rule; rw [if_pos h, y6]
                have v1 : u 5 = 1 → mx_vo u pt mn i = x7 := fun h => by unfold mx_vo mx_rule; rw [if_neg (by omega), if_pos h, y7]
                have v2 : ¬ u 5 = 0 → ¬ u 5 = 1 → mx_vo u pt mn i = 1000 * x8 + x7 := fun h g => by unfold mx_vo mx_rule; rw [if_neg h, if_neg g, y7, y8]
                refine ri_iload C dX4_isToldRight_64 rfl ?_
                refine ri_if_lt C 162 dX4_isToldRight_66 rfl (fun h66 => ?_) (fun h66 => ?_)
                · first | refine ri_aload_n C dX4_isToldRight_162 rfl ?_ | refine ri_aload_nQ C dX4_isToldRight_162 rfl ?_ | refine ri_aload_nN C dX4_isToldRight_162 rfl ?_
                  refine ri_getf C dX4_isToldRight_163 fr_q2970_3 (by first | assumption | (repeat (first | assumption | exact kx_rs (by assumption) | exact kx_ne2 (by omega) | exact kx_ne1 (by omega) | refine kx_ro (by assumption) ?_ ?_ | exact kx_rs rfl | refine kx_ro rfl ?_ ?_))) (by rfl) ?_
                  refine ri_iconst C dX4_isToldRight_166 kc_i5 ?_
                  first | refine ri_ialoadN C dX4_isToldRight_167 (by first | assumption | (repeat (first | assumption | exact kx_rs (by assumption) | exact kx_ne2 (by omega) | exact kx_ne1 (by omega) | refine kx_ro (by assumption) ?_ ?_ | exact kx_rs rfl | refine kx_ro rfl ?_ ?_))) rfl (by omega) ?_ | refine ri_iaload C dX4_isToldRight_167 (by first | assumption | (repeat (first | assumption | exact kx_rs (by assumption) | exact kx_ne2 (by omega) | exact kx_ne1 (by omega) | refine kx_ro (by assumption) ?_ ?_ | exact kx_rs rfl | refine kx_ro rfl ?_ ?_))) rfl (by omega) ?_
                  first | refine ri_if_neB C 176 dX4_isToldRight_168 rfl (fun h168 => ?_) (fun h168 => ?_) | refine ri_if_neN C 176 dX4_isToldRight_168 rfl (by omega) (fun h168 => ?_) (fun h168 => ?_) | refine ri_if_ne C 176 dX4_isToldRight_168 rfl (fun h168 => ?_) (fun h168 => ?_)
                  · first | refine ri_aload_n C dX4_isToldRight_176 rfl ?_ | refine ri_aload_nQ C dX4_isToldRight_176 rfl ?_ | refine ri_aload_nN C dX4_isToldRight_176 rfl ?_
                    refine ri_getf C dX4_isToldRight_177 fr_q2970_3 (by first | assumption | (repeat (first | assumption | exact kx_rs (by assumption) | exact kx_ne2 (by omega) | exact kx_ne1 (by omega) | refine kx_ro (by assumption) ?_ ?_ | exact kx_rs rfl | refine kx_ro rfl ?_ ?_))) (by rfl) ?_
                    refine ri_iconst C dX4_isToldRight_180 kc_i5 ?_
                    first | refine ri_ialoadN C dX4_isToldRight_181 (by first | assumption | (repeat (first | assumption | exact kx_rs (by assumption) | exact kx_ne2 (by omega) | exact kx_ne1 (by omega) | refine kx_ro (by assumption) ?_ ?_ | exact kx_rs rfl | refine kx_ro rfl ?_ ?_))) rfl (by omega) ?_ | refine ri_iaload C dX4_isToldRight_181 (by first | assumption | (repeat (first | assumption | exact kx_rs (by assumption) | exact kx_ne2 (by omega) | exact kx_ne1 (by omega) | refine kx_ro (by assumption) ?_ ?_ | exact kx_rs rfl | refine kx_ro rfl ?_ ?_))) rfl (by omega) ?_
                    refine ri_iconst C dX4_isToldRight_182 kc_i1 ?_
                    first | refine ri_icmp_neN C 191 dX4_isToldRight_183 rfl (by omega) (by omega) (fun h183 => ?_) (fun h183 => ?_) | refine ri_icmp_ne C 191 dX4_isToldRight_183 rfl (fun h183 => ?_) (fun h183 => ?_)
                    · refine ri_sipush C dX4_isToldRight_191 kc_s1000 ?_
                      refine ri_iload C dX4_isToldRight_194 rfl ?_
                      first | refine ri_imulN C dX4_isToldRight_196 ?_ | refine ri_imul C dX4_isToldRight_196 ?_
                      refine ri_iload C dX4_isToldRight_197 rfl ?_
                      first | refine ri_iaddN C dX4_isToldRight_199 ?_ | refine ri_iadd C dX4_isToldRight_199 ?_
                      refine ri_istore C dX4_isToldRight_200 rfl (by decide) ?_
                      refine ri_iload C dX4_isToldRight_202 rfl ?_
                      refine ri_iload C dX4_isToldRight_204 rfl ?_
                      first | refine ri_icmp_gtN C 222 dX4_isToldRight_206 rfl (by omega) (by omega) (fun h206 => ?_) (fun h206 => ?_) | refine ri_icmp_gt C 222 dX4_isToldRight_206 rfl (fun h206 => ?_) (fun h206 => ?_)
                      · exact absurd h206 (by omega) --dead
                      · refine ri_iload C dX4_isToldRight_209 rfl ?_
                        refine ri_iload C dX4_isToldRight_211 rfl ?_
                        first | refine ri_icmp_neN C 224 dX4_isToldRight_213 rfl (by omega) (by omega) (fun h213 => ?_) (fun h213 => ?_) | refine ri_icmp_ne C 224 dX4_isToldRight_213 rfl (fun h213 => ?_) (fun h213 => ?_)
                        · first | refine ri_iincN C dX4_isToldRight_224 rfl rfl (by decide) ?_ | refine ri_iinc C dX4_isToldRight_224 rfl rfl rfl (by decide) ?_
                          refine ri_goto C 39 dX4_isToldRight_227 rfl ?_
                          exact ri_lv2 (ih (i + 1) (by omega) (by omega)) ⟨rfl, rfl, rfl, rfl, rfl, rfl, trivial⟩
                        · refine ri_iload C dX4_isToldRight_216 rfl ?_
                          refine ri_iload_n C dX4_isToldRight_218 rfl ?_
                          first | refine ri_icmp_geN C 224 dX4_isToldRight_219 rfl (by omega) (by omega) (fun h219 => ?_) (fun h219 => ?_) | refine ri_icmp_ge C 224 dX4_isToldRight_219 rfl (fun h219 => ?_) (fun h219 => ?_)
                          · first | refine ri_iincN C dX4_isToldRight_224 rfl rfl (by decide) ?_ | refine ri_iinc C dX4_isToldRight_224 rfl rfl rfl (by decide) ?_
                            refine ri_goto C 39 dX4_isToldRight_227 rfl ?_
                            exact ri_lv2 (ih (i + 1) (by omega) (by omega)) ⟨rfl, rfl, rfl, rfl, rfl, rfl, trivial⟩
                          · exact absurd h219 (by omega) --dead
                    · refine ri_iload C dX4_isToldRight_186 rfl ?_
                      refine ri_goto C 200 dX4_isToldRight_188 rfl ?_
                      refine ri_istore C dX4_isToldRight_200 rfl (by decide) ?_
                      refine ri_iload C dX4_isToldRight_202 rfl ?_
                      refine ri_iload C dX4_isToldRight_204 rfl ?_
                      first | refine ri_icmp_gtN C 222 dX4_isToldRight_206 rfl (by omega) (by omega) (fun h206 => ?_) (fun h206 => ?_) | refine ri_icmp_gt C 222 dX4_isToldRight_206 rfl (fun h206 => ?_) (fun h206 => ?_)
                      · exact absurd h206 (by omega) --dead
                      · refine ri_iload C dX4_isToldRight_209 rfl ?_
                        refine ri_iload C dX4_isToldRight_211 rfl ?_
                        first | refine ri_icmp_neN C 224 dX4_isToldRight_213 rfl (by omega) (by omega) (fun h213 => ?_) (fun h213 => ?_) | refine ri_icmp_ne C 224 dX4_isToldRight_213 rfl (fun h213 => ?_) (fun h213 => ?_)
                        · first | refine ri_iincN C dX4_isToldRight_224 rfl rfl (by decide) ?_ | refine ri_iinc C dX4_isToldRight_224 rfl rfl rfl (by decide) ?_
                          refine ri_goto C 39 dX4_isToldRight_227 rfl ?_
                          exact ri_lv2 (ih (i + 1) (by omega) (by omega)) ⟨rfl, rfl, rfl, rfl, rfl, rfl, trivial⟩
                        · refine ri_iload C dX4_isToldRight_216 rfl ?_
                          refine ri_iload_n C dX4_isToldRight_218 rfl ?_
                          first | refine ri_icmp_geN C 224 dX4_isToldRight_219 rfl (by omega) (by omega) (fun h219 => ?_) (fun h219 => ?_) | refine ri_icmp_ge C 224 dX4_isToldRight_219 rfl (fun h219 => ?_) (fun h219 => ?_)
                          · first | refine ri_iincN C dX4_isToldRight_224 rfl rfl (by decide) ?_ | refine ri_iinc C dX4_isToldRight_224 rfl rfl rfl (by decide) ?_
                            refine ri_goto C 39 dX4_isToldRight_227 rfl ?_
                            exact ri_lv2 (ih (i + 1) (by omega) (by omega)) ⟨rfl, rfl, rfl, rfl, rfl, rfl, trivial⟩
                          · exact absurd h219 (by omega) --dead
                  · refine ri_iload C dX4_isToldRight_171 rfl ?_
                    refine ri_goto C 200 dX4_isToldRight_173 rfl ?_
                    refine ri_istore C dX4_isToldRight_200 rfl (by decide) ?_
                    refine ri_iload C dX4_isToldRight_202 rfl ?_
                    refine ri_iload C dX4_isToldRight_204 rfl ?_
                    first | refine ri_icmp_gtN C 222 dX4_isToldRight_206 rfl (by omega) (by omega) (fun h206 => ?_) (fun h206 => ?_) | refine ri_icmp_gt C 222 dX4_isToldRight_206 rfl (fun h206 => ?_) (fun h206 => ?_)
                    · exact absurd h206 (by omega) --dead
                    · refine ri_iload C dX4_isToldRight_209 rfl ?_
                      refine ri_iload C dX4_isToldRight_211 rfl ?_
                      first | refine ri_icmp_neN C 224 dX4_isToldRight_213 rfl (by omega) (by omega) (fun h213 => ?_) (fun h213 => ?_) | refine ri_icmp_ne C 224 dX4_isToldRight_213 rfl (fun h213 => ?_) (fun h213 => ?_)
                      · first | refine ri_iincN C dX4_isToldRight_224 rfl rfl (by decide) ?_ | refine ri_iinc C dX4_isToldRight_224 rfl rfl rfl (by decide) ?_
                        refine ri_goto C 39 dX4_isToldRight_227 rfl ?_
                        exact ri_lv2 (ih (i + 1) (by omega) (by omega)) ⟨rfl, rfl, rfl, rfl, rfl, rfl, trivial⟩
                      · refine ri_iload C dX4_isToldRight_216 rfl ?_
                        refine ri_iload_n C dX4_isToldRight_218 rfl ?_
                        first | refine ri_icmp_geN C 224 dX4_isToldRight_219 rfl (by omega) (by omega) (fun h219 => ?_) (fun h219 => ?_) | refine ri_icmp_ge C 224 dX4_isToldRight_219 rfl (fun h219 => ?_) (fun h219 => ?_)
                        · first | refine ri_iincN C dX4_isToldRight_224 rfl rfl (by decide) ?_ | refine ri_iinc C dX4_isToldRight_224 rfl rfl rfl (by decide) ?_
                          refine ri_goto C 39 dX4_isToldRight_227 rfl ?_
                          exact ri_lv2 (ih (i + 1) (by omega) (by omega)) ⟨rfl, rfl, rfl, rfl, rfl, rfl, trivial⟩
                        · exact absurd h219 (by omega) --dead
                · exact absurd (by decide) h66 --dead
              · rw [kx_s1 (by omega)]
                have gj := hu.2.1 j (by omega)
                refine ri_iload C dX4_isToldRight_64 rfl ?_
                refine ri_if_lt C 162 dX4_isToldRight_66 rfl (fun h66 => ?_) (fun h66 => ?_)
                · exact absurd h66 (nI_nn (by omega)) --dead
                · first | refine ri_aload_n C dX4_isToldRight_69 rfl ?_ | refine ri_aload_nQ C dX4_isToldRight_69 rfl ?_ | refine ri_aload_nN C dX4_isToldRight_69 rfl ?_
                  refine ri_iload C dX4_isToldRight_70 rfl ?_
                  refine ri_iconst C dX4_isToldRight_72 kc_i4 ?_
                  refine ri_callV C km_X4_of q3140 qs75 dX4_isToldRight_73 (mt_X4_of htr h0 hw (by omega)) rfl rfl (kx_rcN C (by first | assumption | (repeat (first | assumption | exact kx_rs (by assumption) | exact kx_ne2 (by omega) | exact kx_ne1 (by omega) | refine kx_ro (by assumption) ?_ ?_ | exact kx_rs rfl | refine kx_ro rfl ?_ ?_))) rfl) ⟨⟨(Nat.le_of_ble_eq_true rfl), (Nat.le_of_ble_eq_true rfl)⟩, (Nat.le_of_ble_eq_true rfl), (Nat.le_of_ble_eq_true rfl), (Nat.le_of_ble_eq_true rfl)⟩ (fun v73 s73 h73 => ?_) (fun _ _ _ h => h.elim)
                  obtain ⟨rfl, rfl⟩ := h73
                  refine ri_iload C dX4_isToldRight_76 rfl ?_
                  first | refine ri_icmp_neN C 96 dX4_isToldRight_78 rfl (by omega) (by omega) (fun h78 => ?_) (fun h78 => ?_) | refine ri_icmp_ne C 96 dX4_isToldRight_78 rfl (fun h78 => ?_) (fun h78 => ?_)
                  · refine ri_iconst C dX4_isToldRight_96 kc_i0 ?_
                    refine ri_istore C dX4_isToldRight_97 rfl (by decide) ?_
                    refine ri_iload C dX4_isToldRight_99 rfl ?_
                    refine ri_iload C dX4_isToldRight_101 rfl ?_
                    refine ri_if_eq C 117 dX4_isToldRight_103 rfl (fun _ => ?_) (fun h => absurd nI_0 h)
                    refine ri_iconst C dX4_isToldRight_117 kc_i0 ?_
                    first | refine ri_iaddN C dX4_isToldRight_118 ?_ | refine ri_iadd C dX4_isToldRight_118 ?_
                    refine ri_istore C dX4_isToldRight_119 rfl (by decide) ?_
                    refine ri_iload C dX4_isToldRight_121 rfl ?_
                    refine ri_if_eq C 142 dX4_isToldRight_123 rfl (fun _ => ?_) (fun h => absurd nI_0 h)
                    refine ri_iload C dX4_isToldRight_142 rfl ?_
                    refine ri_istore C dX4_isToldRight_144 rfl (by decide) ?_
                    refine ri_iload C dX4_isToldRight_146 rfl ?_
                    refine ri_iload C dX4_isToldRight_148 rfl ?_
                    refine ri_callS C km_X4_one q3247 dX4_isToldRight_150 (mt_X4_one htr (b := false)) rfl rfl ⟨⟨(Nat.le_of_ble_eq_true rfl), (Nat.le_of_ble_eq_true rfl)⟩, (Nat.le_of_ble_eq_true rfl), (Nat.le_of_ble_eq_true rfl), (Nat.le_of_ble_eq_true rfl)⟩ (fun v150 s150 h150 => ?_) (fun _ _ _ h => h.elim)
                    obtain ⟨rfl, rfl⟩ := h150
                    first | refine ri_iaddN C dX4_isToldRight_153 ?_ | refine ri_iadd C dX4_isToldRight_153 ?_
                    refine ri_istore C dX4_isToldRight_154 rfl (by decide) ?_
                    refine ri_iinc C dX4_isToldRight_156 rfl rfl rfl (by decide) ?_
                    refine ri_goto C 64 dX4_isToldRight_159 rfl ?_
                    first
                      | (have hs : mx_say u pt mn i j = true := by simp [mx_say, h78, h89]
                         rw [mx_sum_t hs] at j1
                         rw [mx_max_t hs] at j2
                         rw [mx_cnt_t hs] at j3
                         refine ri_lv2 (ihq (q2 + 1) j _ _ _ (by omega) (by omega) ⟨by omega, ?_, ?_, ?_⟩) ⟨rfl, rfl, rfl, rfl, rfl, rfl, rfl, rfl, rfl, congrArg (fun x => some (Value.int x)) kx_m1, trivial⟩
                         · omega
                         · rw [← j2]; simp only [mx_mx]; repeat (first | omega | split)
                         · rw [← j3]; simp only [Bool.toNat_true]; omega)
                      | (have hs : mx_say u pt mn i j = false := by first | simp [mx_say, h78, h89] | simp [mx_say, h78]
                         rw [mx_sum_f hs] at j1
                         rw [mx_max_f hs] at j2
                         rw [mx_cnt_f hs] at j3
                         refine ri_lv2 (ihq (q2 + 1) j _ _ _ (by omega) (by omega) ⟨by omega, ?_, j2, ?_⟩) ⟨rfl, rfl, rfl, rfl, rfl, rfl, rfl, rfl, rfl, congrArg (fun x => some (Value.int x)) kx_m1, trivial⟩
                         · omega
                         · rw [← j3]; simp only [Bool.toNat_false]; omega)
                  · first | refine ri_aload_n C dX4_isToldRight_81 rfl ?_ | refine ri_aload_nQ C dX4_isToldRight_81 rfl ?_ | refine ri_aload_nN C dX4_isToldRight_81 rfl ?_
                    refine ri_iload C dX4_isToldRight_82 rfl ?_
                    refine ri_iload_n C dX4_isToldRight_84 rfl ?_
                    refine ri_iload_n C dX4_isToldRight_85 rfl ?_
                    refine ri_callV C km_X4_isSpeaking q3221 qs92 dX4_isToldRight_86 (mt_X4_isSpeaking htr h0 hw hu (by omega) hp hm) rfl rfl (kx_rcN C (by first | assumption | (repeat (first | assumption | exact kx_rs (by assumption) | exact kx_ne2 (by omega) | exact kx_ne1 (by omega) | refine kx_ro (by assumption) ?_ ?_ | exact kx_rs rfl | refine kx_ro rfl ?_ ?_))) rfl) ⟨⟨(Nat.le_of_ble_eq_true rfl), (Nat.le_of_ble_eq_true rfl)⟩, (Nat.le_of_ble_eq_true rfl), (Nat.le_of_ble_eq_true rfl), (Nat.le_of_ble_eq_true rfl)⟩ (fun v86 s86 h86 => ?_) (fun _ _ _ h => h.elim)
                    obtain ⟨rfl, rfl⟩ := h86
                    first | refine ri_if_eqB C 96 dX4_isToldRight_89 rfl (fun h89 => ?_) (fun h89 => ?_) | refine ri_if_eqN C 96 dX4_isToldRight_89 rfl (by omega) (fun h89 => ?_) (fun h89 => ?_) | refine ri_if_eq C 96 dX4_isToldRight_89 rfl (fun h89 => ?_) (fun h89 => ?_)
                    · refine ri_iconst C dX4_isToldRight_96 kc_i0 ?_
                      refine ri_istore C dX4_isToldRight_97 rfl (by decide) ?_
                      refine ri_iload C dX4_isToldRight_99 rfl ?_
                      refine ri_iload C dX4_isToldRight_101 rfl ?_
                      refine ri_if_eq C 117 dX4_isToldRight_103 rfl (fun _ => ?_) (fun h => absurd nI_0 h)
                      refine ri_iconst C dX4_isToldRight_117 kc_i0 ?_
                      first | refine ri_iaddN C dX4_isToldRight_118 ?_ | refine ri_iadd C dX4_isToldRight_118 ?_
                      refine ri_istore C dX4_isToldRight_119 rfl (by decide) ?_
                      refine ri_iload C dX4_isToldRight_121 rfl ?_
                      refine ri_if_eq C 142 dX4_isToldRight_123 rfl (fun _ => ?_) (fun h => absurd nI_0 h)
                      refine ri_iload C dX4_isToldRight_142 rfl ?_
                      refine ri_istore C dX4_isToldRight_144 rfl (by decide) ?_
                      refine ri_iload C dX4_isToldRight_146 rfl ?_
                      refine ri_iload C dX4_isToldRight_148 rfl ?_
                      refine ri_callS C km_X4_one q3247 dX4_isToldRight_150 (mt_X4_one htr (b := false)) rfl rfl ⟨⟨(Nat.le_of_ble_eq_true rfl), (Nat.le_of_ble_eq_true rfl)⟩, (Nat.le_of_ble_eq_true rfl), (Nat.le_of_ble_eq_true rfl), (Nat.le_of_ble_eq_true rfl)⟩ (fun v150 s150 h150 => ?_) (fun _ _ _ h => h.elim)
                      obtain ⟨rfl, rfl⟩ := h150
                      first | refine ri_iaddN C dX4_isToldRight_153 ?_ | refine ri_iadd C dX4_isToldRight_153 ?_
                      refine ri_istore C dX4_isToldRight_154 rfl (by decide) ?_
                      refine ri_iinc C dX4_isToldRight_156 rfl rfl rfl (by decide) ?_
                      refine ri_goto C 64 dX4_isToldRight_159 rfl ?_
                      first
                        | (have hs : mx_say u pt mn i j = true := by simp [mx_say, h78, h89]
                           rw [mx_sum_t hs] at j1
                           rw [mx_max_t hs] at j2
                           rw [mx_cnt_t hs] at j3
                           refine ri_lv2 (ihq (q2 + 1) j _ _ _ (by omega) (by omega) ⟨by omega, ?_, ?_, ?_⟩) ⟨rfl, rfl, rfl, rfl, rfl, rfl, rfl, rfl, rfl, congrArg (fun x => some (Value.int x)) kx_m1, trivial⟩
                           · omega
                           · rw [← j2]; simp only [mx_mx]; repeat (first | omega | split)
                           · rw [← j3]; simp only [Bool.toNat_true]; omega)
                        | (have hs : mx_say u pt mn i j = false := by first | simp [mx_say, h78, h89] | simp [mx_say, h78]
                           rw [mx_sum_f hs] at j1
                           rw [mx_max_f hs] at j2
                           rw [mx_cnt_f hs] at j3
                           refine ri_lv2 (ihq (q2 + 1) j _ _ _ (by omega) (by omega) ⟨by omega, ?_, j2, ?_⟩) ⟨rfl, rfl, rfl, rfl, rfl, rfl, rfl, rfl, rfl, congrArg (fun x => some (Value.int x)) kx_m1, trivial⟩
                           · omega
                           · rw [← j3]; simp only [Bool.toNat_false]; omega)
                    · refine ri_iconst C dX4_isToldRight_92 kc_i1 ?_
                      refine ri_goto C 97 dX4_isToldRight_93 rfl ?_
                      refine ri_istore C dX4_isToldRight_97 rfl (by decide) ?_
                      refine ri_iload C dX4_isToldRight_99 rfl ?_
                      refine ri_iload C dX4_isToldRight_101 rfl ?_
                      refine ri_if_eq C 117 dX4_isToldRight_103 rfl (fun h => absurd h (by decide)) (fun _ => ?_)
                      first | refine ri_aload_n C dX4_isToldRight_106 rfl ?_ | refine ri_aload_nQ C dX4_isToldRight_106 rfl ?_ | refine ri_aload_nN C dX4_isToldRight_106 rfl ?_
                      refine ri_iload C dX4_isToldRight_107 rfl ?_
                      refine ri_bipush C dX4_isToldRight_109 kc_b6 ?_
                      refine ri_callV C km_X4_of q3140 qs75 dX4_isToldRight_111 (mt_X4_of htr h0 hw (by omega)) rfl rfl (kx_rcN C (by first | assumption | (repeat (first | assumption | exact kx_rs (by assumption) | exact kx_ne2 (by omega) | exact kx_ne1 (by omega) | refine kx_ro (by assumption) ?_ ?_ | exact kx_rs rfl | refine kx_ro rfl ?_ ?_))) rfl) ⟨⟨(Nat.le_of_ble_eq_true rfl), (Nat.le_of_ble_eq_true rfl)⟩, (Nat.le_of_ble_eq_true rfl), (Nat.le_of_ble_eq_true rfl), (Nat.le_of_ble_eq_true rfl)⟩ (fun v111 s111 h111 => ?_) (fun _ _ _ h => h.elim)
                      obtain ⟨rfl, rfl⟩ := h111
                      refine ri_goto C 118 dX4_isToldRight_114 rfl ?_
                      first | refine ri_iaddN C dX4_isToldRight_118 ?_ | refine ri_iadd C dX4_isToldRight_118 ?_
                      refine ri_istore C dX4_isToldRight_119 rfl (by decide) ?_
                      refine ri_iload C dX4_isToldRight_121 rfl ?_
                      refine ri_if_eq C 142 dX4_isToldRight_123 rfl (fun h => absurd h (by decide)) (fun _ => ?_)
                      refine ri_iload C dX4_isToldRight_126 rfl ?_
                      first | refine ri_aload_n C dX4_isToldRight_128 rfl ?_ | refine ri_aload_nQ C dX4_isToldRight_128 rfl ?_ | refine ri_aload_nN C dX4_isToldRight_128 rfl ?_
                      refine ri_iload C dX4_isToldRight_129 rfl ?_
                      refine ri_bipush C dX4_isToldRight_131 kc_b6 ?_
                      refine ri_callV C km_X4_of q3140 qs75 dX4_isToldRight_133 (mt_X4_of htr h0 hw (by omega)) rfl rfl (kx_rcN C (by first | assumption | (repeat (first | assumption | exact kx_rs (by assumption) | exact kx_ne2 (by omega) | exact kx_ne1 (by omega) | refine kx_ro (by assumption) ?_ ?_ | exact kx_rs rfl | refine kx_ro rfl ?_ ?_))) rfl) ⟨⟨(Nat.le_of_ble_eq_true rfl), (Nat.le_of_ble_eq_true rfl)⟩, (Nat.le_of_ble_eq_true rfl), (Nat.le_of_ble_eq_true rfl), (Nat.le_of_ble_eq_true rfl)⟩ (fun v133 s133 h133 => ?_) (fun _ _ _ h => h.elim)
                      obtain ⟨rfl, rfl⟩ := h133
                      refine ri_callS C km_J12_max q3242 dX4_isToldRight_136 (mt_J12_max htr (by omega) (by omega)) rfl rfl ⟨⟨(Nat.le_of_ble_eq_true rfl), (Nat.le_of_ble_eq_true rfl)⟩, (Nat.le_of_ble_eq_true rfl), (Nat.le_of_ble_eq_true rfl), (Nat.le_of_ble_eq_true rfl)⟩ (fun v136 s136 h136 => ?_) (fun _ _ _ h => h.elim)
                      obtain ⟨rfl, rfl⟩ := h136
                      refine ri_goto C 144 dX4_isToldRight_139 rfl ?_
                      refine ri_istore C dX4_isToldRight_144 rfl (by decide) ?_
                      refine ri_iload C dX4_isToldRight_146 rfl ?_
                      refine ri_iload C dX4_isToldRight_148 rfl ?_
                      refine ri_callS C km_X4_one q3247 dX4_isToldRight_150 (mt_X4_one htr (b := true)) rfl rfl ⟨⟨(Nat.le_of_ble_eq_true rfl), (Nat.le_of_ble_eq_true rfl)⟩, (Nat.le_of_ble_eq_true rfl), (Nat.le_of_ble_eq_true rfl), (Nat.le_of_ble_eq_true rfl)⟩ (fun v150 s150 h150 => ?_) (fun _ _ _ h => h.elim)
                      obtain ⟨rfl, rfl⟩ := h150
                      first | refine ri_iaddN C dX4_isToldRight_153 ?_ | refine ri_iadd C dX4_isToldRight_153 ?_
                      refine ri_istore C dX4_isToldRight_154 rfl (by decide) ?_
                      refine ri_iinc C dX4_isToldRight_156 rfl rfl rfl (by decide) ?_
                      refine ri_goto C 64 dX4_isToldRight_159 rfl ?_
                      first
                        | (have hs : mx_say u pt mn i j = true := by simp [mx_say, h78, h89]
                           rw [mx_sum_t hs] at j1
                           rw [mx_max_t hs] at j2
                           rw [mx_cnt_t hs] at j3
                           refine ri_lv2 (ihq (q2 + 1) j _ _ _ (by omega) (by omega) ⟨by omega, ?_, ?_, ?_⟩) ⟨rfl, rfl, rfl, rfl, rfl, rfl, rfl, rfl, rfl, congrArg (fun x => some (Value.int x)) kx_m1, trivial⟩
                           · omega
                           · rw [← j2]; simp only [mx_mx]; repeat (first | omega | split)
                           · rw [← j3]; simp only [Bool.toNat_true]; omega)
                        | (have hs : mx_say u pt mn i j = false := by first | simp [mx_say, h78, h89] | simp [mx_say, h78]
                           rw [mx_sum_f hs] at j1
                           rw [mx_max_f hs] at j2
                           rw [mx_cnt_f hs] at j3
                           refine ri_lv2 (ihq (q2 + 1) j _ _ _ (by omega) (by omega) ⟨by omega, ?_, j2, ?_⟩) ⟨rfl, rfl, rfl, rfl, rfl, rfl, rfl, rfl, rfl, congrArg (fun x => some (Value.int x)) kx_m1, trivial⟩
                           · omega
                           · rw [← j3]; simp only [Bool.toNat_false]; omega)
          refine ri_lv2 (LQ (u 0 + 1) 0 (u 0) 0 0 0 (by omega) (by omega) ⟨rfl, Nat.zero_add _, Nat.zero_max _, Nat.zero_add _⟩) ⟨rfl, rfl, rfl, rfl, rfl, rfl, rfl, rfl, rfl, rfl, trivial⟩
    exact ri_lv2 (LP 6 0 (by omega) (by omega)) ⟨rfl, rfl, rfl, rfl, rfl, rfl, trivial⟩
  · have ht : mx_told u pt mn = none := (by cases ht : mx_told u pt mn with | none => rfl | some b => rw [ht] at h9; exact absurd h9 (nI_m1 (by have := mx_told_b ht; omega)))
    rw [mx_told_n hu] at ht
    first | refine ri_aload_n C dX4_isToldRight_12 rfl ?_ | refine ri_aload_nQ C dX4_isToldRight_12 rfl ?_ | refine ri_aload_nN C dX4_isToldRight_12 rfl ?_
    refine ri_iload_n C dX4_isToldRight_13 rfl ?_
    refine ri_iload_n C dX4_isToldRight_14 rfl ?_
    refine ri_callV C km_X4_speakersAt q3330 qs112 dX4_isToldRight_15 (mt_X4_speakersAt htr h0 hw hu hp hm) rfl rfl (kx_rcN C (by first | assumption | (repeat (first | assumption | exact kx_rs (by assumption) | exact kx_ne2 (by omega) | exact kx_ne1 (by omega) | refine kx_ro (by assumption) ?_ ?_ | exact kx_rs rfl | refine kx_ro rfl ?_ ?_))) rfl) ⟨⟨(Nat.le_of_ble_eq_true rfl), (Nat.le_of_ble_eq_true rfl)⟩, (Nat.le_of_ble_eq_true rfl), (Nat.le_of_ble_eq_true rfl), (Nat.le_of_ble_eq_true rfl)⟩ (fun v15 s15 h15 => ?_) (fun _ _ _ h => h.elim)
    obtain ⟨rfl, rfl⟩ := h15
    first | refine ri_if_neB C 25 dX4_isToldRight_18 rfl (fun h18 => ?_) (fun h18 => ?_) | refine ri_if_neN C 25 dX4_isToldRight_18 rfl (by omega) (fun h18 => ?_) (fun h18 => ?_) | refine ri_if_ne C 25 dX4_isToldRight_18 rfl (fun h18 => ?_) (fun h18 => ?_)
    · exact absurd ht h18 --dead
    · refine ri_iconst C dX4_isToldRight_21 kc_i1 ?_
      refine ri_goto C 26 dX4_isToldRight_22 rfl ?_
      exact ri_iret C hQ dX4_isToldRight_26 rfl (Nat.le_of_ble_eq_true rfl) (Nat.le_of_ble_eq_true rfl) (by refine ⟨congrArg (fun z => some (Value.int z)) ?_, rfl⟩; rfl)
set_option maxHeartbeats 1000000 in
theorem mt_X4_areMeetingsRight {l : Launch} {G : kx_G} (htr : l.stackTraces = false) {σ : kx_H} {mo : Nat} {ad : Nat → Nat} {z : Nat → Int32} {u : Nat → Nat} {k : Nat} (h0 : σ (1, 0) = some (mo, .inr (3, mo_L ad z))) (hw : σ (1, 1) = some (ad 0, kx_ai G 1417 (mx_w u))) (hu : mx_ok u) (hg : mx_ag2 u) (hbt : ∀ i, i < 1417 → u i < 1000000000) (hk : k < u 0) : kx_SP l G yX4_areMeetingsRight (ws_ yX4_areMeetingsRight cX4_areMeetingsRight 3 (some .boolean)) 3 0 0 [.ref mo, .int (nI k)] σ (fun v τ => v = some (.int (nI 1)) ∧ τ = σ) kx_nx := by
  refine kx_body htr (by decide +kernel) (own := "RoseProverbsModel") (nm := "areMeetingsRight") rfl rfl (Nat.le_of_ble_eq_true rfl) ?_
  intro p e s m args below meth c Q C hQ
  have gn := hu.1
  have gk := hu.2.1 k hk
  have LP : ∀ (wk i : Nat) , i ≤ u 0 → u 0 < i + wk → kx_V G l p e (kx_rm 3 0 0) s m args below meth c 3 Q 2 [(0, .ref mo), (1, .int (nI k)), (2, .int (nI i))] [] σ 0 0 := by
    intro wk
    induction wk with
    | zero => intro i  h1 h2; exact absurd h2 (by omega)
    | succ wk ih =>
      intro i  hi hwk 
      refine ri_iload_n C dX4_areMeetingsRight_2 rfl ?_
      first | refine ri_aload_n C dX4_areMeetingsRight_3 rfl ?_ | refine ri_aload_nQ C dX4_areMeetingsRight_3 rfl ?_ | refine ri_aload_nN C dX4_areMeetingsRight_3 rfl ?_
      refine ri_getf C dX4_areMeetingsRight_4 fr_q2970_3 (by first | assumption | (repeat (first | assumption | exact kx_rs (by assumption) | exact kx_ne2 (by omega) | exact kx_ne1 (by omega) | refine kx_ro (by assumption) ?_ ?_ | exact kx_rs rfl | refine kx_ro rfl ?_ ?_))) (by rfl) ?_
      refine ri_iconst C dX4_areMeetingsRight_7 kc_i0 ?_
      first | refine ri_ialoadN C dX4_areMeetingsRight_8 (by first | assumption | (repeat (first | assumption | exact kx_rs (by assumption) | exact kx_ne2 (by omega) | exact kx_ne1 (by omega) | refine kx_ro (by assumption) ?_ ?_ | exact kx_rs rfl | refine kx_ro rfl ?_ ?_))) rfl (by omega) ?_ | refine ri_iaload C dX4_areMeetingsRight_8 (by first | assumption | (repeat (first | assumption | exact kx_rs (by assumption) | exact kx_ne2 (by omega) | exact kx_ne1 (by omega) | refine kx_ro (by assumption) ?_ ?_ | exact kx_rs rfl | refine kx_ro rfl ?_ ?_))) rfl (by omega) ?_
      first | refine ri_icmp_geN C 57 dX4_areMeetingsRight_9 rfl (by omega) (by omega) (fun h9 => ?_) (fun h9 => ?_) | refine ri_icmp_ge C 57 dX4_areMeetingsRight_9 rfl (fun h9 => ?_) (fun h9 => ?_)
      · first | refine ri_aload_n C dX4_areMeetingsRight_57 rfl ?_ | refine ri_aload_nQ C dX4_areMeetingsRight_57 rfl ?_ | refine ri_aload_nN C dX4_areMeetingsRight_57 rfl ?_
        refine ri_iload_n C dX4_areMeetingsRight_58 rfl ?_
        refine ri_bipush C dX4_areMeetingsRight_59 kc_b6 ?_
        refine ri_callV C km_X4_of q3140 qs75 dX4_areMeetingsRight_61 (mt_X4_of htr h0 hw (by omega)) rfl rfl (kx_rcN C (by first | assumption | (repeat (first | assumption | exact kx_rs (by assumption) | exact kx_ne2 (by omega) | exact kx_ne1 (by omega) | refine kx_ro (by assumption) ?_ ?_ | exact kx_rs rfl | refine kx_ro rfl ?_ ?_))) rfl) ⟨⟨(Nat.le_of_ble_eq_true rfl), (Nat.le_of_ble_eq_true rfl)⟩, (Nat.le_of_ble_eq_true rfl), (Nat.le_of_ble_eq_true rfl), (Nat.le_of_ble_eq_true rfl)⟩ (fun v61 s61 h61 => ?_) (fun _ _ _ h => h.elim)
        obtain ⟨rfl, rfl⟩ := h61
        refine ri_iconst C dX4_areMeetingsRight_64 kc_i1 ?_
        refine ri_sipush C dX4_areMeetingsRight_65 kc_s999 ?_
        refine ri_callS C km_X4_inRange q3071 dX4_areMeetingsRight_68 (mt_X4_inRange htr) rfl rfl ⟨⟨(Nat.le_of_ble_eq_true rfl), (Nat.le_of_ble_eq_true rfl)⟩, (Nat.le_of_ble_eq_true rfl), (Nat.le_of_ble_eq_true rfl), (Nat.le_of_ble_eq_true rfl)⟩ (fun v68 s68 h68 => ?_) (fun _ _ _ h => h.elim)
        obtain ⟨rfl, rfl⟩ := h68
        exact ri_iret C hQ dX4_areMeetingsRight_71 (kx_b_nar _) (Nat.le_of_ble_eq_true rfl) (Nat.le_of_ble_eq_true rfl) (by refine ⟨congrArg (fun z => some (Value.int z)) ?_, rfl⟩; rw [decide_eq_true]; rfl; rw [Int32.le_iff_toInt_le, Int32.le_iff_toInt_le, nI_toInt (by omega), nI_toInt (by omega), nI_toInt (by omega)]; omega)
      · have g1 := hg.1 k i (by omega) (by omega)
        have b1 := hbt (265 + 24 * k + i) (by omega)
        have b2 := hbt (265 + 24 * i + k) (by omega)
        have b3 := hbt (841 + 24 * k + i) (by omega)
        have b4 := hbt (841 + 24 * i + k) (by omega)
        first | refine ri_aload_n C dX4_areMeetingsRight_12 rfl ?_ | refine ri_aload_nQ C dX4_areMeetingsRight_12 rfl ?_ | refine ri_aload_nN C dX4_areMeetingsRight_12 rfl ?_
        refine ri_iload_n C dX4_areMeetingsRight_13 rfl ?_
        refine ri_iload_n C dX4_areMeetingsRight_14 rfl ?_
        refine ri_callV C km_X4_metOf q3406 qs120 dX4_areMeetingsRight_15 (mt_X4_metOf htr h0 hw (by omega)) rfl rfl (kx_rcN C (by first | assumption | (repeat (first | assumption | exact kx_rs (by assumption) | exact kx_ne2 (by omega) | exact kx_ne1 (by omega) | refine kx_ro (by assumption) ?_ ?_ | exact kx_rs rfl | refine kx_ro rfl ?_ ?_))) rfl) ⟨⟨(Nat.le_of_ble_eq_true rfl), (Nat.le_of_ble_eq_true rfl)⟩, (Nat.le_of_ble_eq_true rfl), (Nat.le_of_ble_eq_true rfl), (Nat.le_of_ble_eq_true rfl)⟩ (fun v15 s15 h15 => ?_) (fun _ _ _ h => h.elim)
        obtain ⟨rfl, rfl⟩ := h15
        first | refine ri_aload_n C dX4_areMeetingsRight_18 rfl ?_ | refine ri_aload_nQ C dX4_areMeetingsRight_18 rfl ?_ | refine ri_aload_nN C dX4_areMeetingsRight_18 rfl ?_
        refine ri_iload_n C dX4_areMeetingsRight_19 rfl ?_
        refine ri_iload_n C dX4_areMeetingsRight_20 rfl ?_
        refine ri_callV C km_X4_metOf q3406 qs120 dX4_areMeetingsRight_21 (mt_X4_metOf htr h0 hw (by omega)) rfl rfl (kx_rcN C (by first | assumption | (repeat (first | assumption | exact kx_rs (by assumption) | exact kx_ne2 (by omega) | exact kx_ne1 (by omega) | refine kx_ro (by assumption) ?_ ?_ | exact kx_rs rfl | refine kx_ro rfl ?_ ?_))) rfl) ⟨⟨(Nat.le_of_ble_eq_true rfl), (Nat.le_of_ble_eq_true rfl)⟩, (Nat.le_of_ble_eq_true rfl), (Nat.le_of_ble_eq_true rfl), (Nat.le_of_ble_eq_true rfl)⟩ (fun v21 s21 h21 => ?_) (fun _ _ _ h => h.elim)
        obtain ⟨rfl, rfl⟩ := h21
        first | refine ri_icmp_neN C 49 dX4_areMeetingsRight_24 rfl (by omega) (by omega) (fun h24 => ?_) (fun h24 => ?_) | refine ri_icmp_ne C 49 dX4_areMeetingsRight_24 rfl (fun h24 => ?_) (fun h24 => ?_)
        · exact absurd h24 (by omega) --dead
        · first | refine ri_aload_n C dX4_areMeetingsRight_27 rfl ?_ | refine ri_aload_nQ C dX4_areMeetingsRight_27 rfl ?_ | refine ri_aload_nN C dX4_areMeetingsRight_27 rfl ?_
          refine ri_iload_n C dX4_areMeetingsRight_28 rfl ?_
          refine ri_iload_n C dX4_areMeetingsRight_29 rfl ?_
          refine ri_callV C km_X4_beatOf q3414 qs121 dX4_areMeetingsRight_30 (mt_X4_beatOf htr h0 hw (by omega)) rfl rfl (kx_rcN C (by first | assumption | (repeat (first | assumption | exact kx_rs (by assumption) | exact kx_ne2 (by omega) | exact kx_ne1 (by omega) | refine kx_ro (by assumption) ?_ ?_ | exact kx_rs rfl | refine kx_ro rfl ?_ ?_))) rfl) ⟨⟨(Nat.le_of_ble_eq_true rfl), (Nat.le_of_ble_eq_true rfl)⟩, (Nat.le_of_ble_eq_true rfl), (Nat.le_of_ble_eq_true rfl), (Nat.le_of_ble_eq_true rfl)⟩ (fun v30 s30 h30 => ?_) (fun _ _ _ h => h.elim)
          obtain ⟨rfl, rfl⟩ := h30
          first | refine ri_aload_n C dX4_areMeetingsRight_33 rfl ?_ | refine ri_aload_nQ C dX4_areMeetingsRight_33 rfl ?_ | refine ri_aload_nN C dX4_areMeetingsRight_33 rfl ?_
          refine ri_iload_n C dX4_areMeetingsRight_34 rfl ?_
          refine ri_iload_n C dX4_areMeetingsRight_35 rfl ?_
          refine ri_callV C km_X4_beatOf q3414 qs121 dX4_areMeetingsRight_36 (mt_X4_beatOf htr h0 hw (by omega)) rfl rfl (kx_rcN C (by first | assumption | (repeat (first | assumption | exact kx_rs (by assumption) | exact kx_ne2 (by omega) | exact kx_ne1 (by omega) | refine kx_ro (by assumption) ?_ ?_ | exact kx_rs rfl | refine kx_ro rfl ?_ ?_))) rfl) ⟨⟨(Nat.le_of_ble_eq_true rfl), (Nat.le_of_ble_eq_true rfl)⟩, (Nat.le_of_ble_eq_true rfl), (Nat.le_of_ble_eq_true rfl), (Nat.le_of_ble_eq_true rfl)⟩ (fun v36 s36 h36 => ?_) (fun _ _ _ h => h.elim)
          obtain ⟨rfl, rfl⟩ := h36
          first | refine ri_iaddN C dX4_areMeetingsRight_39 ?_ | refine ri_iadd C dX4_areMeetingsRight_39 ?_
          first | refine ri_aload_n C dX4_areMeetingsRight_40 rfl ?_ | refine ri_aload_nQ C dX4_areMeetingsRight_40 rfl ?_ | refine ri_aload_nN C dX4_areMeetingsRight_40 rfl ?_
          refine ri_iload_n C dX4_areMeetingsRight_41 rfl ?_
          refine ri_iload_n C dX4_areMeetingsRight_42 rfl ?_
          refine ri_callV C km_X4_metOf q3406 qs120 dX4_areMeetingsRight_43 (mt_X4_metOf htr h0 hw (by omega)) rfl rfl (kx_rcN C (by first | assumption | (repeat (first | assumption | exact kx_rs (by assumption) | exact kx_ne2 (by omega) | exact kx_ne1 (by omega) | refine kx_ro (by assumption) ?_ ?_ | exact kx_rs rfl | refine kx_ro rfl ?_ ?_))) rfl) ⟨⟨(Nat.le_of_ble_eq_true rfl), (Nat.le_of_ble_eq_true rfl)⟩, (Nat.le_of_ble_eq_true rfl), (Nat.le_of_ble_eq_true rfl), (Nat.le_of_ble_eq_true rfl)⟩ (fun v43 s43 h43 => ?_) (fun _ _ _ h => h.elim)
          obtain ⟨rfl, rfl⟩ := h43
          first | refine ri_icmp_leN C 51 dX4_areMeetingsRight_46 rfl (by omega) (by omega) (fun h46 => ?_) (fun h46 => ?_) | refine ri_icmp_le C 51 dX4_areMeetingsRight_46 rfl (fun h46 => ?_) (fun h46 => ?_)
          · first | refine ri_iincN C dX4_areMeetingsRight_51 rfl rfl (by decide) ?_ | refine ri_iinc C dX4_areMeetingsRight_51 rfl rfl rfl (by decide) ?_
            refine ri_goto C 2 dX4_areMeetingsRight_54 rfl ?_
            exact ri_lv2 (ih (i + 1) (by omega) (by omega)) ⟨rfl, rfl, rfl, trivial⟩
          · exact absurd h46 (by omega) --dead
  refine ri_iconst C dX4_areMeetingsRight_0 kc_i0 ?_
  refine ri_istore_n C dX4_areMeetingsRight_1 rfl (by decide) ?_
  exact ri_lv2 (LP (u 0 + 1) 0 (by omega) (by omega)) ⟨rfl, rfl, rfl, trivial⟩
set_option maxHeartbeats 1000000 in
theorem mt_X4_areDaysRight {l : Launch} {G : kx_G} (htr : l.stackTraces = false) {σ : kx_H} {mo : Nat} {ad : Nat → Nat} {z : Nat → Int32} {u : Nat → Nat} (h0 : σ (1, 0) = some (mo, .inr (3, mo_L ad z))) (hw : σ (1, 1) = some (ad 0, kx_ai G 1417 (mx_w u))) (hg : mx_ag2 u) (hbt : ∀ i, i < 1417 → u i < 1000000000) : kx_SP l G yX4_areDaysRight (ws_ yX4_areDaysRight cX4_areDaysRight 3 (some .boolean)) 3 0 0 [.ref mo] σ (fun v τ => v = some (.int (nI 1)) ∧ τ = σ) kx_nx := by
  refine kx_body htr (by decide +kernel) (own := "RoseProverbsModel") (nm := "areDaysRight") rfl rfl (Nat.le_of_ble_eq_true rfl) ?_
  intro p e s m args below meth c Q C hQ
  have g2 := hg.2.2.2.2.1
  have g3 := hg.2.2.2.2.2
  have b0 := hbt 2 (by omega)
  have b1 := hbt 8 (by omega)
  have b9 := hbt 9 (by omega)
  have b10 := hbt 10 (by omega)
  have b11 := hbt 11 (by omega)
  have LP : ∀ (wk i : Nat) , i ≤ 4 → 4 < i + wk → kx_V G l p e (kx_rm 3 0 0) s m args below meth c 3 Q 10 [(0, .ref mo), (1, .int (nI (u 8))), (2, .int (nI i))] [] σ 0 0 := by
    intro wk
    induction wk with
    | zero => intro i  h1 h2; exact absurd h2 (by omega)
    | succ wk ih =>
      intro i  hi hwk 
      have gi := hg.2.2.2.1 i
      have b4 := hbt (17 + i) (by omega)
      have b5 := hbt (21 + i) (by omega)
      have b6 := hbt (8 + i) (by omega)
      refine ri_iload_n C dX4_areDaysRight_10 rfl ?_
      refine ri_iconst C dX4_areDaysRight_11 kc_i4 ?_
      first | refine ri_icmp_geN C 54 dX4_areDaysRight_12 rfl (by omega) (by omega) (fun h12 => ?_) (fun h12 => ?_) | refine ri_icmp_ge C 54 dX4_areDaysRight_12 rfl (fun h12 => ?_) (fun h12 => ?_)
      · refine ri_iload_n C dX4_areDaysRight_54 rfl ?_
        first | refine ri_aload_n C dX4_areDaysRight_55 rfl ?_ | refine ri_aload_nQ C dX4_areDaysRight_55 rfl ?_ | refine ri_aload_nN C dX4_areDaysRight_55 rfl ?_
        refine ri_getf C dX4_areDaysRight_56 fr_q2970_3 (by first | assumption | (repeat (first | assumption | exact kx_rs (by assumption) | exact kx_ne2 (by omega) | exact kx_ne1 (by omega) | refine kx_ro (by assumption) ?_ ?_ | exact kx_rs rfl | refine kx_ro rfl ?_ ?_))) (by rfl) ?_
        refine ri_iconst C dX4_areDaysRight_59 kc_i2 ?_
        first | refine ri_ialoadN C dX4_areDaysRight_60 (by first | assumption | (repeat (first | assumption | exact kx_rs (by assumption) | exact kx_ne2 (by omega) | exact kx_ne1 (by omega) | refine kx_ro (by assumption) ?_ ?_ | exact kx_rs rfl | refine kx_ro rfl ?_ ?_))) rfl (by omega) ?_ | refine ri_iaload C dX4_areDaysRight_60 (by first | assumption | (repeat (first | assumption | exact kx_rs (by assumption) | exact kx_ne2 (by omega) | exact kx_ne1 (by omega) | refine kx_ro (by assumption) ?_ ?_ | exact kx_rs rfl | refine kx_ro rfl ?_ ?_))) rfl (by omega) ?_
        first | refine ri_icmp_neN C 95 dX4_areDaysRight_61 rfl (by omega) (by omega) (fun h61 => ?_) (fun h61 => ?_) | refine ri_icmp_ne C 95 dX4_areDaysRight_61 rfl (fun h61 => ?_) (fun h61 => ?_)
        · exact absurd h61 (by omega) --dead
        · refine ri_iload_n C dX4_areDaysRight_64 rfl ?_
          first | refine ri_aload_n C dX4_areDaysRight_65 rfl ?_ | refine ri_aload_nQ C dX4_areDaysRight_65 rfl ?_ | refine ri_aload_nN C dX4_areDaysRight_65 rfl ?_
          refine ri_getf C dX4_areDaysRight_66 fr_q2970_3 (by first | assumption | (repeat (first | assumption | exact kx_rs (by assumption) | exact kx_ne2 (by omega) | exact kx_ne1 (by omega) | refine kx_ro (by assumption) ?_ ?_ | exact kx_rs rfl | refine kx_ro rfl ?_ ?_))) (by rfl) ?_
          refine ri_bipush C dX4_areDaysRight_69 kc_b9 ?_
          first | refine ri_ialoadN C dX4_areDaysRight_71 (by first | assumption | (repeat (first | assumption | exact kx_rs (by assumption) | exact kx_ne2 (by omega) | exact kx_ne1 (by omega) | refine kx_ro (by assumption) ?_ ?_ | exact kx_rs rfl | refine kx_ro rfl ?_ ?_))) rfl (by omega) ?_ | refine ri_iaload C dX4_areDaysRight_71 (by first | assumption | (repeat (first | assumption | exact kx_rs (by assumption) | exact kx_ne2 (by omega) | exact kx_ne1 (by omega) | refine kx_ro (by assumption) ?_ ?_ | exact kx_rs rfl | refine kx_ro rfl ?_ ?_))) rfl (by omega) ?_
          first | refine ri_aload_n C dX4_areDaysRight_72 rfl ?_ | refine ri_aload_nQ C dX4_areDaysRight_72 rfl ?_ | refine ri_aload_nN C dX4_areDaysRight_72 rfl ?_
          refine ri_getf C dX4_areDaysRight_73 fr_q2970_3 (by first | assumption | (repeat (first | assumption | exact kx_rs (by assumption) | exact kx_ne2 (by omega) | exact kx_ne1 (by omega) | refine kx_ro (by assumption) ?_ ?_ | exact kx_rs rfl | refine kx_ro rfl ?_ ?_))) (by rfl) ?_
          refine ri_bipush C dX4_areDaysRight_76 kc_b10 ?_
          first | refine ri_ialoadN C dX4_areDaysRight_78 (by first | assumption | (repeat (first | assumption | exact kx_rs (by assumption) | exact kx_ne2 (by omega) | exact kx_ne1 (by omega) | refine kx_ro (by assumption) ?_ ?_ | exact kx_rs rfl | refine kx_ro rfl ?_ ?_))) rfl (by omega) ?_ | refine ri_iaload C dX4_areDaysRight_78 (by first | assumption | (repeat (first | assumption | exact kx_rs (by assumption) | exact kx_ne2 (by omega) | exact kx_ne1 (by omega) | refine kx_ro (by assumption) ?_ ?_ | exact kx_rs rfl | refine kx_ro rfl ?_ ?_))) rfl (by omega) ?_
          first | refine ri_iaddN C dX4_areDaysRight_79 ?_ | refine ri_iadd C dX4_areDaysRight_79 ?_
          first | refine ri_aload_n C dX4_areDaysRight_80 rfl ?_ | refine ri_aload_nQ C dX4_areDaysRight_80 rfl ?_ | refine ri_aload_nN C dX4_areDaysRight_80 rfl ?_
          refine ri_getf C dX4_areDaysRight_81 fr_q2970_3 (by first | assumption | (repeat (first | assumption | exact kx_rs (by assumption) | exact kx_ne2 (by omega) | exact kx_ne1 (by omega) | refine kx_ro (by assumption) ?_ ?_ | exact kx_rs rfl | refine kx_ro rfl ?_ ?_))) (by rfl) ?_
          refine ri_bipush C dX4_areDaysRight_84 kc_b11 ?_
          first | refine ri_ialoadN C dX4_areDaysRight_86 (by first | assumption | (repeat (first | assumption | exact kx_rs (by assumption) | exact kx_ne2 (by omega) | exact kx_ne1 (by omega) | refine kx_ro (by assumption) ?_ ?_ | exact kx_rs rfl | refine kx_ro rfl ?_ ?_))) rfl (by omega) ?_ | refine ri_iaload C dX4_areDaysRight_86 (by first | assumption | (repeat (first | assumption | exact kx_rs (by assumption) | exact kx_ne2 (by omega) | exact kx_ne1 (by omega) | refine kx_ro (by assumption) ?_ ?_ | exact kx_rs rfl | refine kx_ro rfl ?_ ?_))) rfl (by omega) ?_
          first | refine ri_iaddN C dX4_areDaysRight_87 ?_ | refine ri_iadd C dX4_areDaysRight_87 ?_
          first | refine ri_icmp_neN C 95 dX4_areDaysRight_88 rfl (by omega) (by omega) (fun h88 => ?_) (fun h88 => ?_) | refine ri_icmp_ne C 95 dX4_areDaysRight_88 rfl (fun h88 => ?_) (fun h88 => ?_)
          · exact absurd h88 (by omega) --dead
          · refine ri_iconst C dX4_areDaysRight_91 kc_i1 ?_
            refine ri_goto C 96 dX4_areDaysRight_92 rfl ?_
            exact ri_iret C hQ dX4_areDaysRight_96 rfl (Nat.le_of_ble_eq_true rfl) (Nat.le_of_ble_eq_true rfl) (by refine ⟨congrArg (fun z => some (Value.int z)) ?_, rfl⟩; rfl)
      · first | refine ri_aload_n C dX4_areDaysRight_15 rfl ?_ | refine ri_aload_nQ C dX4_areDaysRight_15 rfl ?_ | refine ri_aload_nN C dX4_areDaysRight_15 rfl ?_
        refine ri_getf C dX4_areDaysRight_16 fr_q2970_3 (by first | assumption | (repeat (first | assumption | exact kx_rs (by assumption) | exact kx_ne2 (by omega) | exact kx_ne1 (by omega) | refine kx_ro (by assumption) ?_ ?_ | exact kx_rs rfl | refine kx_ro rfl ?_ ?_))) (by rfl) ?_
        refine ri_bipush C dX4_areDaysRight_19 kc_b17 ?_
        refine ri_iload_n C dX4_areDaysRight_21 rfl ?_
        first | refine ri_iaddN C dX4_areDaysRight_22 ?_ | refine ri_iadd C dX4_areDaysRight_22 ?_
        first | refine ri_ialoadN C dX4_areDaysRight_23 (by first | assumption | (repeat (first | assumption | exact kx_rs (by assumption) | exact kx_ne2 (by omega) | exact kx_ne1 (by omega) | refine kx_ro (by assumption) ?_ ?_ | exact kx_rs rfl | refine kx_ro rfl ?_ ?_))) rfl (by omega) ?_ | refine ri_iaload C dX4_areDaysRight_23 (by first | assumption | (repeat (first | assumption | exact kx_rs (by assumption) | exact kx_ne2 (by omega) | exact kx_ne1 (by omega) | refine kx_ro (by assumption) ?_ ?_ | exact kx_rs rfl | refine kx_ro rfl ?_ ?_))) rfl (by omega) ?_
        first | refine ri_aload_n C dX4_areDaysRight_24 rfl ?_ | refine ri_aload_nQ C dX4_areDaysRight_24 rfl ?_ | refine ri_aload_nN C dX4_areDaysRight_24 rfl ?_
        refine ri_getf C dX4_areDaysRight_25 fr_q2970_3 (by first | assumption | (repeat (first | assumption | exact kx_rs (by assumption) | exact kx_ne2 (by omega) | exact kx_ne1 (by omega) | refine kx_ro (by assumption) ?_ ?_ | exact kx_rs rfl | refine kx_ro rfl ?_ ?_))) (by rfl) ?_
        refine ri_bipush C dX4_areDaysRight_28 kc_b21 ?_
        refine ri_iload_n C dX4_areDaysRight_30 rfl ?_
        first | refine ri_iaddN C dX4_areDaysRight_31 ?_ | refine ri_iadd C dX4_areDaysRight_31 ?_
        first | refine ri_ialoadN C dX4_areDaysRight_32 (by first | assumption | (repeat (first | assumption | exact kx_rs (by assumption) | exact kx_ne2 (by omega) | exact kx_ne1 (by omega) | refine kx_ro (by assumption) ?_ ?_ | exact kx_rs rfl | refine kx_ro rfl ?_ ?_))) rfl (by omega) ?_ | refine ri_iaload C dX4_areDaysRight_32 (by first | assumption | (repeat (first | assumption | exact kx_rs (by assumption) | exact kx_ne2 (by omega) | exact kx_ne1 (by omega) | refine kx_ro (by assumption) ?_ ?_ | exact kx_rs rfl | refine kx_ro rfl ?_ ?_))) rfl (by omega) ?_
        first | refine ri_iaddN C dX4_areDaysRight_33 ?_ | refine ri_iadd C dX4_areDaysRight_33 ?_
        first | refine ri_aload_n C dX4_areDaysRight_34 rfl ?_ | refine ri_aload_nQ C dX4_areDaysRight_34 rfl ?_ | refine ri_aload_nN C dX4_areDaysRight_34 rfl ?_
        refine ri_getf C dX4_areDaysRight_35 fr_q2970_3 (by first | assumption | (repeat (first | assumption | exact kx_rs (by assumption) | exact kx_ne2 (by omega) | exact kx_ne1 (by omega) | refine kx_ro (by assumption) ?_ ?_ | exact kx_rs rfl | refine kx_ro rfl ?_ ?_))) (by rfl) ?_
        refine ri_bipush C dX4_areDaysRight_38 kc_b8 ?_
        refine ri_iload_n C dX4_areDaysRight_40 rfl ?_
        first | refine ri_iaddN C dX4_areDaysRight_41 ?_ | refine ri_iadd C dX4_areDaysRight_41 ?_
        first | refine ri_ialoadN C dX4_areDaysRight_42 (by first | assumption | (repeat (first | assumption | exact kx_rs (by assumption) | exact kx_ne2 (by omega) | exact kx_ne1 (by omega) | refine kx_ro (by assumption) ?_ ?_ | exact kx_rs rfl | refine kx_ro rfl ?_ ?_))) rfl (by omega) ?_ | refine ri_iaload C dX4_areDaysRight_42 (by first | assumption | (repeat (first | assumption | exact kx_rs (by assumption) | exact kx_ne2 (by omega) | exact kx_ne1 (by omega) | refine kx_ro (by assumption) ?_ ?_ | exact kx_rs rfl | refine kx_ro rfl ?_ ?_))) rfl (by omega) ?_
        first | refine ri_icmp_eqN C 48 dX4_areDaysRight_43 rfl (by omega) (by omega) (fun h43 => ?_) (fun h43 => ?_) | refine ri_icmp_eq C 48 dX4_areDaysRight_43 rfl (fun h43 => ?_) (fun h43 => ?_)
        · first | refine ri_iincN C dX4_areDaysRight_48 rfl rfl (by decide) ?_ | refine ri_iinc C dX4_areDaysRight_48 rfl rfl rfl (by decide) ?_
          refine ri_goto C 10 dX4_areDaysRight_51 rfl ?_
          exact ri_lv2 (ih (i + 1) (by omega) (by omega)) ⟨rfl, rfl, rfl, trivial⟩
        · exact absurd h43 (by omega) --dead
  first | refine ri_aload_n C dX4_areDaysRight_0 rfl ?_ | refine ri_aload_nQ C dX4_areDaysRight_0 rfl ?_ | refine ri_aload_nN C dX4_areDaysRight_0 rfl ?_
  refine ri_getf C dX4_areDaysRight_1 fr_q2970_3 (by first | assumption | (repeat (first | assumption | exact kx_rs (by assumption) | exact kx_ne2 (by omega) | exact kx_ne1 (by omega) | refine kx_ro (by assumption) ?_ ?_ | exact kx_rs rfl | refine kx_ro rfl ?_ ?_))) (by rfl) ?_
  refine ri_bipush C dX4_areDaysRight_4 kc_b8 ?_
  first | refine ri_ialoadN C dX4_areDaysRight_6 (by first | assumption | (repeat (first | assumption | exact kx_rs (by assumption) | exact kx_ne2 (by omega) | exact kx_ne1 (by omega) | refine kx_ro (by assumption) ?_ ?_ | exact kx_rs rfl | refine kx_ro rfl ?_ ?_))) rfl (by omega) ?_ | refine ri_iaload C dX4_areDaysRight_6 (by first | assumption | (repeat (first | assumption | exact kx_rs (by assumption) | exact kx_ne2 (by omega) | exact kx_ne1 (by omega) | refine kx_ro (by assumption) ?_ ?_ | exact kx_rs rfl | refine kx_ro rfl ?_ ?_))) rfl (by omega) ?_
  refine ri_istore_n C dX4_areDaysRight_7 rfl (by decide) ?_
  refine ri_iconst C dX4_areDaysRight_8 kc_i0 ?_
  refine ri_istore_n C dX4_areDaysRight_9 rfl (by decide) ?_
  exact ri_lv2 (LP 5 0 (by omega) (by omega)) ⟨rfl, rfl, rfl, trivial⟩
set_option maxHeartbeats 1000000 in
theorem mt_X4_agree {l : Launch} {G : kx_G} (htr : l.stackTraces = false) {σ : kx_H} {mo : Nat} {ad : Nat → Nat} {z : Nat → Int32} {u : Nat → Nat} (h0 : σ (1, 0) = some (mo, .inr (3, mo_L ad z))) (hw : σ (1, 1) = some (ad 0, kx_ai G 1417 (mx_w u))) (hu : mx_ok u) (hg : mx_ag2 u) (hbt : ∀ i, i < 1417 → u i < 1000000000) : kx_SP l G yX4_agree (ws_ yX4_agree cX4_agree 4 (some .boolean)) 12 0 0 [.ref mo] σ (fun v τ => v = some (.int (nI 1)) ∧ τ = kx_up σ (1, 0) (mo, .inr (3, mo_L ad (mo_z z 9 (nI 0))))) kx_nx := by
  refine kx_body htr (by decide +kernel) (own := "RoseProverbsModel") (nm := "agree") rfl rfl (Nat.le_of_ble_eq_true rfl) ?_
  intro p e s m args below meth c Q C hQ
  have gn := hu.1
  have g12 := hg.2.1
  have g13 := hg.2.2.1
  have b12 := hbt 12 (by omega)
  have b13 := hbt 13 (by omega)
  first | refine ri_aload_n C dX4_agree_0 rfl ?_ | refine ri_aload_nQ C dX4_agree_0 rfl ?_ | refine ri_aload_nN C dX4_agree_0 rfl ?_
  refine ri_iconst C dX4_agree_1 kc_i0 ?_
  refine ri_putf C dX4_agree_2 fd_q2979_3 (fun h => nomatch h) (by first | assumption | (repeat (first | assumption | exact kx_rs (by assumption) | exact kx_ne2 (by omega) | exact kx_ne1 (by omega) | refine kx_ro (by assumption) ?_ ?_ | exact kx_rs rfl | refine kx_ro rfl ?_ ?_))) (Nat.le_of_ble_eq_true rfl) (by rfl) (by rfl) mo_set9 (fun s2 e2 => ?_)
  refine ri_iconst C dX4_agree_5 kc_i0 ?_
  refine ri_istore_n C dX4_agree_6 rfl (by decide) ?_
  have LP : ∀ (wk i : Nat) , i ≤ 192 → 192 < i + wk → kx_V G l p e (kx_rm 12 0 0) s m args below meth c 4 Q 7 [(0, .ref mo), (1, .int (nI i))] [] s2 0 0 := by
    intro wk
    induction wk with
    | zero => intro i  h1 h2; exact absurd h2 (by omega)
    | succ wk ih =>
      intro i  hi hwk 
      refine ri_iload_n C dX4_agree_7 rfl ?_
      refine ri_sipush C dX4_agree_8 kc_s192 ?_
      first | refine ri_icmp_geN C 37 dX4_agree_11 rfl (by omega) (by omega) (fun h11 => ?_) (fun h11 => ?_) | refine ri_icmp_ge C 37 dX4_agree_11 rfl (fun h11 => ?_) (fun h11 => ?_)
      · refine ri_iconst C dX4_agree_37 kc_i0 ?_
        refine ri_istore_n C dX4_agree_38 rfl (by decide) ?_
        refine ri_iconst C dX4_agree_39 kc_i0 ?_
        refine ri_istore_n C dX4_agree_40 rfl (by decide) ?_
        refine ri_iconst C dX4_agree_41 kc_i0 ?_
        refine ri_istore_n C dX4_agree_42 rfl (by decide) ?_
        have LR : ∀ (wk i : Nat) , i ≤ u 0 → u 0 < i + wk → kx_V G l p e (kx_rm 12 0 0) s m args below meth c 4 Q 43 [(0, .ref mo), (1, .int (nI (mx_sum (fun _ => true) (fun k => mx_p u k 7) i))), (2, .int (nI (mx_sum (fun _ => true) (fun k => mx_p u k 8) i))), (3, .int (nI i))] [] s2 0 0 := by
          intro wk
          induction wk with
          | zero => intro i  h1 h2; exact absurd h2 (by omega)
          | succ wk ih =>
            intro i  hi hwk 
            refine ri_iload_n C dX4_agree_43 rfl ?_
            first | refine ri_aload_n C dX4_agree_44 rfl ?_ | refine ri_aload_nQ C dX4_agree_44 rfl ?_ | refine ri_aload_nN C dX4_agree_44 rfl ?_
            refine ri_getf C dX4_agree_45 fr_q2970_3 (by first | assumption | (repeat (first | assumption | exact kx_rs (by assumption) | exact kx_ne2 (by omega) | exact kx_ne1 (by omega) | refine kx_ro (by assumption) ?_ ?_ | exact kx_rs rfl | refine kx_ro rfl ?_ ?_))) (by rfl) ?_
            refine ri_iconst C dX4_agree_48 kc_i0 ?_
            first | refine ri_ialoadN C dX4_agree_49 (by first | assumption | (repeat (first | assumption | exact kx_rs (by assumption) | exact kx_ne2 (by omega) | exact kx_ne1 (by omega) | refine kx_ro (by assumption) ?_ ?_ | exact kx_rs rfl | refine kx_ro rfl ?_ ?_))) rfl (by omega) ?_ | refine ri_iaload C dX4_agree_49 (by first | assumption | (repeat (first | assumption | exact kx_rs (by assumption) | exact kx_ne2 (by omega) | exact kx_ne1 (by omega) | refine kx_ro (by assumption) ?_ ?_ | exact kx_rs rfl | refine kx_ro rfl ?_ ?_))) rfl (by omega) ?_
            first | refine ri_icmp_geN C 89 dX4_agree_50 rfl (by omega) (by omega) (fun h50 => ?_) (fun h50 => ?_) | refine ri_icmp_ge C 89 dX4_agree_50 rfl (fun h50 => ?_) (fun h50 => ?_)
            · obtain rfl : i = u 0 := by omega
              refine ri_iload_n C dX4_agree_89 rfl ?_
              first | refine ri_aload_n C dX4_agree_90 rfl ?_ | refine ri_aload_nQ C dX4_agree_90 rfl ?_ | refine ri_aload_nN C dX4_agree_90 rfl ?_
              refine ri_getf C dX4_agree_91 fr_q2970_3 (by first | assumption | (repeat (first | assumption | exact kx_rs (by assumption) | exact kx_ne2 (by omega) | exact kx_ne1 (by omega) | refine kx_ro (by assumption) ?_ ?_ | exact kx_rs rfl | refine kx_ro rfl ?_ ?_))) (by rfl) ?_
              refine ri_bipush C dX4_agree_94 kc_b12 ?_
              first | refine ri_ialoadN C dX4_agree_96 (by first | assumption | (repeat (first | assumption | exact kx_rs (by assumption) | exact kx_ne2 (by omega) | exact kx_ne1 (by omega) | refine kx_ro (by assumption) ?_ ?_ | exact kx_rs rfl | refine kx_ro rfl ?_ ?_))) rfl (by omega) ?_ | refine ri_iaload C dX4_agree_96 (by first | assumption | (repeat (first | assumption | exact kx_rs (by assumption) | exact kx_ne2 (by omega) | exact kx_ne1 (by omega) | refine kx_ro (by assumption) ?_ ?_ | exact kx_rs rfl | refine kx_ro rfl ?_ ?_))) rfl (by omega) ?_
              first | refine ri_icmp_neN C 122 dX4_agree_97 rfl (by omega) (by omega) (fun h97 => ?_) (fun h97 => ?_) | refine ri_icmp_ne C 122 dX4_agree_97 rfl (fun h97 => ?_) (fun h97 => ?_)
              · exact absurd h97 (by omega) --dead
              · refine ri_iload_n C dX4_agree_100 rfl ?_
                first | refine ri_aload_n C dX4_agree_101 rfl ?_ | refine ri_aload_nQ C dX4_agree_101 rfl ?_ | refine ri_aload_nN C dX4_agree_101 rfl ?_
                refine ri_getf C dX4_agree_102 fr_q2970_3 (by first | assumption | (repeat (first | assumption | exact kx_rs (by assumption) | exact kx_ne2 (by omega) | exact kx_ne1 (by omega) | refine kx_ro (by assumption) ?_ ?_ | exact kx_rs rfl | refine kx_ro rfl ?_ ?_))) (by rfl) ?_
                refine ri_bipush C dX4_agree_105 kc_b13 ?_
                first | refine ri_ialoadN C dX4_agree_107 (by first | assumption | (repeat (first | assumption | exact kx_rs (by assumption) | exact kx_ne2 (by omega) | exact kx_ne1 (by omega) | refine kx_ro (by assumption) ?_ ?_ | exact kx_rs rfl | refine kx_ro rfl ?_ ?_))) rfl (by omega) ?_ | refine ri_iaload C dX4_agree_107 (by first | assumption | (repeat (first | assumption | exact kx_rs (by assumption) | exact kx_ne2 (by omega) | exact kx_ne1 (by omega) | refine kx_ro (by assumption) ?_ ?_ | exact kx_rs rfl | refine kx_ro rfl ?_ ?_))) rfl (by omega) ?_
                first | refine ri_icmp_neN C 122 dX4_agree_108 rfl (by omega) (by omega) (fun h108 => ?_) (fun h108 => ?_) | refine ri_icmp_ne C 122 dX4_agree_108 rfl (fun h108 => ?_) (fun h108 => ?_)
                · exact absurd h108 (by omega) --dead
                · first | refine ri_aload_n C dX4_agree_111 rfl ?_ | refine ri_aload_nQ C dX4_agree_111 rfl ?_ | refine ri_aload_nN C dX4_agree_111 rfl ?_
                  refine ri_callV C km_X4_areDaysRight q3494 qs129 dX4_agree_112 (mt_X4_areDaysRight htr (by first | assumption | (repeat (first | assumption | exact kx_rs (by assumption) | exact kx_ne2 (by omega) | exact kx_ne1 (by omega) | refine kx_ro (by assumption) ?_ ?_ | exact kx_rs rfl | refine kx_ro rfl ?_ ?_))) (by first | assumption | (repeat (first | assumption | exact kx_rs (by assumption) | exact kx_ne2 (by omega) | exact kx_ne1 (by omega) | refine kx_ro (by assumption) ?_ ?_ | exact kx_rs rfl | refine kx_ro rfl ?_ ?_))) hg hbt) rfl rfl (kx_rcN C (by first | assumption | (repeat (first | assumption | exact kx_rs (by assumption) | exact kx_ne2 (by omega) | exact kx_ne1 (by omega) | refine kx_ro (by assumption) ?_ ?_ | exact kx_rs rfl | refine kx_ro rfl ?_ ?_))) rfl) ⟨⟨(Nat.le_of_ble_eq_true rfl), (Nat.le_of_ble_eq_true rfl)⟩, (Nat.le_of_ble_eq_true rfl), (Nat.le_of_ble_eq_true rfl), (Nat.le_of_ble_eq_true rfl)⟩ (fun v112 s112 h112 => ?_) (fun _ _ _ h => h.elim)
                  obtain ⟨rfl, rfl⟩ := h112
                  first | refine ri_if_eqB C 122 dX4_agree_115 rfl (fun h115 => ?_) (fun h115 => ?_) | refine ri_if_eqN C 122 dX4_agree_115 rfl (by omega) (fun h115 => ?_) (fun h115 => ?_) | refine ri_if_eq C 122 dX4_agree_115 rfl (fun h115 => ?_) (fun h115 => ?_)
                  · exact absurd h115 (by decide) --dead
                  · refine ri_iconst C dX4_agree_118 kc_i1 ?_
                    refine ri_goto C 123 dX4_agree_119 rfl ?_
                    exact ri_iret C hQ dX4_agree_123 rfl (Nat.le_of_ble_eq_true rfl) (Nat.le_of_ble_eq_true rfl) ⟨rfl, by assumption⟩
            · first | refine ri_aload_n C dX4_agree_53 rfl ?_ | refine ri_aload_nQ C dX4_agree_53 rfl ?_ | refine ri_aload_nN C dX4_agree_53 rfl ?_
              refine ri_iload_n C dX4_agree_54 rfl ?_
              refine ri_callV C km_X4_areMeetingsRight q3490 qs128 dX4_agree_55 (mt_X4_areMeetingsRight htr (by first | assumption | (repeat (first | assumption | exact kx_rs (by assumption) | exact kx_ne2 (by omega) | exact kx_ne1 (by omega) | refine kx_ro (by assumption) ?_ ?_ | exact kx_rs rfl | refine kx_ro rfl ?_ ?_))) (by first | assumption | (repeat (first | assumption | exact kx_rs (by assumption) | exact kx_ne2 (by omega) | exact kx_ne1 (by omega) | refine kx_ro (by assumption) ?_ ?_ | exact kx_rs rfl | refine kx_ro rfl ?_ ?_))) hu hg hbt (by omega)) rfl rfl (kx_rcN C (by first | assumption | (repeat (first | assumption | exact kx_rs (by assumption) | exact kx_ne2 (by omega) | exact kx_ne1 (by omega) | refine kx_ro (by assumption) ?_ ?_ | exact kx_rs rfl | refine kx_ro rfl ?_ ?_))) rfl) ⟨⟨(Nat.le_of_ble_eq_true rfl), (Nat.le_of_ble_eq_true rfl)⟩, (Nat.le_of_ble_eq_true rfl), (Nat.le_of_ble_eq_true rfl), (Nat.le_of_ble_eq_true rfl)⟩ (fun v55 s55 h55 => ?_) (fun _ _ _ h => h.elim)
              obtain ⟨rfl, rfl⟩ := h55
              first | refine ri_if_neB C 63 dX4_agree_58 rfl (fun h58 => ?_) (fun h58 => ?_) | refine ri_if_neN C 63 dX4_agree_58 rfl (by omega) (fun h58 => ?_) (fun h58 => ?_) | refine ri_if_ne C 63 dX4_agree_58 rfl (fun h58 => ?_) (fun h58 => ?_)
              · refine ri_iload_n C dX4_agree_63 rfl ?_
                first | refine ri_aload_n C dX4_agree_64 rfl ?_ | refine ri_aload_nQ C dX4_agree_64 rfl ?_ | refine ri_aload_nN C dX4_agree_64 rfl ?_
                refine ri_iload_n C dX4_agree_65 rfl ?_
                refine ri_bipush C dX4_agree_66 kc_b7 ?_
                refine ri_callV C km_X4_of q3140 qs75 dX4_agree_68 (mt_X4_of htr (by first | assumption | (repeat (first | assumption | exact kx_rs (by assumption) | exact kx_ne2 (by omega) | exact kx_ne1 (by omega) | refine kx_ro (by assumption) ?_ ?_ | exact kx_rs rfl | refine kx_ro rfl ?_ ?_))) (by first | assumption | (repeat (first | assumption | exact kx_rs (by assumption) | exact kx_ne2 (by omega) | exact kx_ne1 (by omega) | refine kx_ro (by assumption) ?_ ?_ | exact kx_rs rfl | refine kx_ro rfl ?_ ?_))) (by omega)) rfl rfl (kx_rcN C (by first | assumption | (repeat (first | assumption | exact kx_rs (by assumption) | exact kx_ne2 (by omega) | exact kx_ne1 (by omega) | refine kx_ro (by assumption) ?_ ?_ | exact kx_rs rfl | refine kx_ro rfl ?_ ?_))) rfl) ⟨⟨(Nat.le_of_ble_eq_true rfl), (Nat.le_of_ble_eq_true rfl)⟩, (Nat.le_of_ble_eq_true rfl), (Nat.le_of_ble_eq_true rfl), (Nat.le_of_ble_eq_true rfl)⟩ (fun v68 s68 h68 => ?_) (fun _ _ _ h => h.elim)
                obtain ⟨rfl, rfl⟩ := h68
                first | refine ri_iaddN C dX4_agree_71 ?_ | refine ri_iadd C dX4_agree_71 ?_
                refine ri_istore_n C dX4_agree_72 rfl (by decide) ?_
                refine ri_iload_n C dX4_agree_73 rfl ?_
                first | refine ri_aload_n C dX4_agree_74 rfl ?_ | refine ri_aload_nQ C dX4_agree_74 rfl ?_ | refine ri_aload_nN C dX4_agree_74 rfl ?_
                refine ri_iload_n C dX4_agree_75 rfl ?_
                refine ri_bipush C dX4_agree_76 kc_b8 ?_
                refine ri_callV C km_X4_of q3140 qs75 dX4_agree_78 (mt_X4_of htr (by first | assumption | (repeat (first | assumption | exact kx_rs (by assumption) | exact kx_ne2 (by omega) | exact kx_ne1 (by omega) | refine kx_ro (by assumption) ?_ ?_ | exact kx_rs rfl | refine kx_ro rfl ?_ ?_))) (by first | assumption | (repeat (first | assumption | exact kx_rs (by assumption) | exact kx_ne2 (by omega) | exact kx_ne1 (by omega) | refine kx_ro (by assumption) ?_ ?_ | exact kx_rs rfl | refine kx_ro rfl ?_ ?_))) (by omega)) rfl rfl (kx_rcN C (by first | assumption | (repeat (first | assumption | exact kx_rs (by assumption) | exact kx_ne2 (by omega) | exact kx_ne1 (by omega) | refine kx_ro (by assumption) ?_ ?_ | exact kx_rs rfl | refine kx_ro rfl ?_ ?_))) rfl) ⟨⟨(Nat.le_of_ble_eq_true rfl), (Nat.le_of_ble_eq_true rfl)⟩, (Nat.le_of_ble_eq_true rfl), (Nat.le_of_ble_eq_true rfl), (Nat.le_of_ble_eq_true rfl)⟩ (fun v78 s78 h78 => ?_) (fun _ _ _ h => h.elim)
                obtain ⟨rfl, rfl⟩ := h78
                first | refine ri_iaddN C dX4_agree_81 ?_ | refine ri_iadd C dX4_agree_81 ?_
                refine ri_istore_n C dX4_agree_82 rfl (by decide) ?_
                first | refine ri_iincN C dX4_agree_83 rfl rfl (by decide) ?_ | refine ri_iinc C dX4_agree_83 rfl rfl rfl (by decide) ?_
                refine ri_goto C 43 dX4_agree_86 rfl ?_
                exact ri_lv2 (ih (i + 1) (by omega) (by omega)) ⟨rfl, rfl, rfl, rfl, trivial⟩
              · exact absurd h58 (by decide) --dead
        exact ri_lv2 (LR (u 0 + 1) 0 (by omega) (by omega)) ⟨rfl, rfl, rfl, rfl, trivial⟩
      · first | refine ri_aload_n C dX4_agree_14 rfl ?_ | refine ri_aload_nQ C dX4_agree_14 rfl ?_ | refine ri_aload_nN C dX4_agree_14 rfl ?_
        refine ri_iload_n C dX4_agree_15 rfl ?_
        refine ri_bipush C dX4_agree_16 kc_b12 ?_
        first | refine ri_idivN C dX4_agree_18 (by omega) (by omega) (by omega) ?_ | refine ri_idiv C dX4_agree_18 (by decide) ?_
        refine ri_iload_n C dX4_agree_19 rfl ?_
        refine ri_bipush C dX4_agree_20 kc_b12 ?_
        first | refine ri_iremN C dX4_agree_22 (by omega) (by omega) (by omega) ?_ | refine ri_irem C dX4_agree_22 (by decide) ?_
        refine ri_callV C km_X4_isToldRight q3486 qs127 dX4_agree_23 (mt_X4_isToldRight htr (by first | assumption | (repeat (first | assumption | exact kx_rs (by assumption) | exact kx_ne2 (by omega) | exact kx_ne1 (by omega) | refine kx_ro (by assumption) ?_ ?_ | exact kx_rs rfl | refine kx_ro rfl ?_ ?_))) (by first | assumption | (repeat (first | assumption | exact kx_rs (by assumption) | exact kx_ne2 (by omega) | exact kx_ne1 (by omega) | refine kx_ro (by assumption) ?_ ?_ | exact kx_rs rfl | refine kx_ro rfl ?_ ?_))) hu (by omega) (by omega)) rfl rfl (kx_rcN C (by first | assumption | (repeat (first | assumption | exact kx_rs (by assumption) | exact kx_ne2 (by omega) | exact kx_ne1 (by omega) | refine kx_ro (by assumption) ?_ ?_ | exact kx_rs rfl | refine kx_ro rfl ?_ ?_))) rfl) ⟨⟨(Nat.le_of_ble_eq_true rfl), (Nat.le_of_ble_eq_true rfl)⟩, (Nat.le_of_ble_eq_true rfl), (Nat.le_of_ble_eq_true rfl), (Nat.le_of_ble_eq_true rfl)⟩ (fun v23 s23 h23 => ?_) (fun _ _ _ h => h.elim)
        obtain ⟨rfl, rfl⟩ := h23
        first | refine ri_if_neB C 31 dX4_agree_26 rfl (fun h26 => ?_) (fun h26 => ?_) | refine ri_if_neN C 31 dX4_agree_26 rfl (by omega) (fun h26 => ?_) (fun h26 => ?_) | refine ri_if_ne C 31 dX4_agree_26 rfl (fun h26 => ?_) (fun h26 => ?_)
        · first | refine ri_iincN C dX4_agree_31 rfl rfl (by decide) ?_ | refine ri_iinc C dX4_agree_31 rfl rfl rfl (by decide) ?_
          refine ri_goto C 7 dX4_agree_34 rfl ?_
          exact ri_lv2 (ih (i + 1) (by omega) (by omega)) ⟨rfl, rfl, trivial⟩
        · exact absurd h26 (by decide) --dead
  exact ri_lv2 (LP 193 0 (by omega) (by omega)) ⟨rfl, rfl, trivial⟩
set_option maxHeartbeats 1000000 in
theorem mt_X4_truth {l : Launch} {G : kx_G} (htr : l.stackTraces = false) {σ : kx_H} {mo : Nat} {ad : Nat → Nat} {z : Nat → Int32} {u : Nat → Nat} (h0 : σ (1, 0) = some (mo, .inr (3, mo_L ad z))) (hw : σ (1, 1) = some (ad 0, kx_ai G 1417 (mx_w u))) (hb : u 9 + u 10 < 1000) : kx_SP l G yX4_truth (ws_ yX4_truth cX4_truth 3 (some .double)) 2 0 0 [.ref mo] σ (fun v τ => v = some (.double (an_truth u)) ∧ τ = kx_up σ (1, 0) (mo, .inr (3, mo_L ad (mo_z z 9 (nI 0))))) kx_nx := by
  refine kx_body htr (by decide +kernel) (own := "RoseProverbsModel") (nm := "truth") rfl rfl (Nat.le_of_ble_eq_true rfl) ?_
  intro p e s m args below meth c Q C hQ
  first | refine ri_aload_n C dX4_truth_0 rfl ?_ | refine ri_aload_nQ C dX4_truth_0 rfl ?_ | refine ri_aload_nN C dX4_truth_0 rfl ?_
  refine ri_iconst C dX4_truth_1 kc_i0 ?_
  refine ri_putf C dX4_truth_2 fd_q2979_3 (fun h => nomatch h) (by first | assumption | (repeat (first | assumption | exact kx_rs (by assumption) | exact kx_ne2 (by omega) | exact kx_ne1 (by omega) | refine kx_ro (by assumption) ?_ ?_ | exact kx_rs rfl | refine kx_ro rfl ?_ ?_))) (Nat.le_of_ble_eq_true rfl) (by rfl) (by rfl) mo_set9 (fun s2 e2 => ?_)
  first | refine ri_aload_n C dX4_truth_5 rfl ?_ | refine ri_aload_nQ C dX4_truth_5 rfl ?_ | refine ri_aload_nN C dX4_truth_5 rfl ?_
  refine ri_getf C dX4_truth_6 fr_q2970_3 (by first | assumption | (repeat (first | assumption | exact kx_rs (by assumption) | exact kx_ne2 (by omega) | exact kx_ne1 (by omega) | refine kx_ro (by assumption) ?_ ?_ | exact kx_rs rfl | refine kx_ro rfl ?_ ?_))) (by rfl) ?_
  refine ri_bipush C dX4_truth_9 kc_b9 ?_
  first | refine ri_ialoadN C dX4_truth_11 (by first | assumption | (repeat (first | assumption | exact kx_rs (by assumption) | exact kx_ne2 (by omega) | exact kx_ne1 (by omega) | refine kx_ro (by assumption) ?_ ?_ | exact kx_rs rfl | refine kx_ro rfl ?_ ?_))) rfl (by omega) ?_ | refine ri_iaload C dX4_truth_11 (by first | assumption | (repeat (first | assumption | exact kx_rs (by assumption) | exact kx_ne2 (by omega) | exact kx_ne1 (by omega) | refine kx_ro (by assumption) ?_ ?_ | exact kx_rs rfl | refine kx_ro rfl ?_ ?_))) rfl (by omega) ?_
  refine ri_istore_n C dX4_truth_12 rfl (by decide) ?_
  refine ri_iload_n C dX4_truth_13 rfl ?_
  first | refine ri_aload_n C dX4_truth_14 rfl ?_ | refine ri_aload_nQ C dX4_truth_14 rfl ?_ | refine ri_aload_nN C dX4_truth_14 rfl ?_
  refine ri_getf C dX4_truth_15 fr_q2970_3 (by first | assumption | (repeat (first | assumption | exact kx_rs (by assumption) | exact kx_ne2 (by omega) | exact kx_ne1 (by omega) | refine kx_ro (by assumption) ?_ ?_ | exact kx_rs rfl | refine kx_ro rfl ?_ ?_))) (by rfl) ?_
  refine ri_bipush C dX4_truth_18 kc_b10 ?_
  first | refine ri_ialoadN C dX4_truth_20 (by first | assumption | (repeat (first | assumption | exact kx_rs (by assumption) | exact kx_ne2 (by omega) | exact kx_ne1 (by omega) | refine kx_ro (by assumption) ?_ ?_ | exact kx_rs rfl | refine kx_ro rfl ?_ ?_))) rfl (by omega) ?_ | refine ri_iaload C dX4_truth_20 (by first | assumption | (repeat (first | assumption | exact kx_rs (by assumption) | exact kx_ne2 (by omega) | exact kx_ne1 (by omega) | refine kx_ro (by assumption) ?_ ?_ | exact kx_rs rfl | refine kx_ro rfl ?_ ?_))) rfl (by omega) ?_
  first | refine ri_iaddN C dX4_truth_21 ?_ | refine ri_iadd C dX4_truth_21 ?_
  refine ri_istore_n C dX4_truth_22 rfl (by decide) ?_
  refine ri_iload_n C dX4_truth_23 rfl ?_
  first | refine ri_if_neB C 31 dX4_truth_24 rfl (fun h24 => ?_) (fun h24 => ?_) | refine ri_if_neN C 31 dX4_truth_24 rfl (by omega) (fun h24 => ?_) (fun h24 => ?_) | refine ri_if_ne C 31 dX4_truth_24 rfl (fun h24 => ?_) (fun h24 => ?_)
  · refine ri_iload_n C dX4_truth_31 rfl ?_
    refine ri_i2d C dX4_truth_32 ?_
    refine ri_iload_n C dX4_truth_33 rfl ?_
    refine ri_i2d C dX4_truth_34 ?_
    refine ri_ddiv C dX4_truth_35 (fp_ddiv hb (by omega)) ?_
    exact ri_dret C hQ dX4_truth_36 (Nat.le_of_ble_eq_true rfl) (Nat.le_of_ble_eq_true rfl) ⟨by unfold an_truth; first | rw [if_pos h24] | rw [if_neg h24], by assumption⟩
  · refine ri_dconst0 C dX4_truth_27 ?_
    refine ri_goto C 36 dX4_truth_28 rfl ?_
    exact ri_dret C hQ dX4_truth_36 (Nat.le_of_ble_eq_true rfl) (Nat.le_of_ble_eq_true rfl) ⟨by unfold an_truth; first | rw [if_pos h24] | rw [if_neg h24], by assumption⟩
set_option maxHeartbeats 1000000 in
theorem mt_X4_meanWeight {l : Launch} {G : kx_G} (htr : l.stackTraces = false) {σ : kx_H} {mo : Nat} {ad : Nat → Nat} {z : Nat → Int32} {u : Nat → Nat} (h0 : σ (1, 0) = some (mo, .inr (3, mo_L ad z))) (hw : σ (1, 1) = some (ad 0, kx_ai G 1417 (mx_w u))) (hu : mx_ok u) : kx_SP l G yX4_meanWeight (ws_ yX4_meanWeight cX4_meanWeight 1 (some .float)) 7 0 0 [.ref mo] σ (fun v τ => v = some (.float (an_mean u)) ∧ τ = kx_up σ (1, 0) (mo, .inr (3, mo_L ad (mo_z z 9 (nI 0))))) kx_nx := by
  refine kx_body htr (by decide +kernel) (own := "RoseProverbsModel") (nm := "meanWeight") rfl rfl (Nat.le_of_ble_eq_true rfl) ?_
  intro p e s m args below meth c Q C hQ
  have gl : mx_lm u ≤ u 0 := mx_cnt_le
  have gn := hu.1
  first | refine ri_aload_n C dX4_meanWeight_0 rfl ?_ | refine ri_aload_nQ C dX4_meanWeight_0 rfl ?_ | refine ri_aload_nN C dX4_meanWeight_0 rfl ?_
  refine ri_iconst C dX4_meanWeight_1 kc_i0 ?_
  refine ri_putf C dX4_meanWeight_2 fd_q2979_3 (fun h => nomatch h) (by first | assumption | (repeat (first | assumption | exact kx_rs (by assumption) | exact kx_ne2 (by omega) | exact kx_ne1 (by omega) | refine kx_ro (by assumption) ?_ ?_ | exact kx_rs rfl | refine kx_ro rfl ?_ ?_))) (Nat.le_of_ble_eq_true rfl) (by rfl) (by rfl) mo_set9 (fun s2 e2 => ?_)
  first | refine ri_aload_n C dX4_meanWeight_5 rfl ?_ | refine ri_aload_nQ C dX4_meanWeight_5 rfl ?_ | refine ri_aload_nN C dX4_meanWeight_5 rfl ?_
  refine ri_callV C km_X4_liveMany q3279 qs103 dX4_meanWeight_6 (mt_X4_liveMany htr (by first | assumption | (repeat (first | assumption | exact kx_rs (by assumption) | exact kx_ne2 (by omega) | exact kx_ne1 (by omega) | refine kx_ro (by assumption) ?_ ?_ | exact kx_rs rfl | refine kx_ro rfl ?_ ?_))) (by first | assumption | (repeat (first | assumption | exact kx_rs (by assumption) | exact kx_ne2 (by omega) | exact kx_ne1 (by omega) | refine kx_ro (by assumption) ?_ ?_ | exact kx_rs rfl | refine kx_ro rfl ?_ ?_))) hu) rfl rfl (kx_rcN C (by first | assumption | (repeat (first | assumption | exact kx_rs (by assumption) | exact kx_ne2 (by omega) | exact kx_ne1 (by omega) | refine kx_ro (by assumption) ?_ ?_ | exact kx_rs rfl | refine kx_ro rfl ?_ ?_))) rfl) ⟨⟨(Nat.le_of_ble_eq_true rfl), (Nat.le_of_ble_eq_true rfl)⟩, (Nat.le_of_ble_eq_true rfl), (Nat.le_of_ble_eq_true rfl), (Nat.le_of_ble_eq_true rfl)⟩ (fun v6 s6 h6 => ?_) (fun _ _ _ h => h.elim)
  obtain ⟨rfl, rfl⟩ := h6
  first | refine ri_if_neB C 16 dX4_meanWeight_9 rfl (fun h9 => ?_) (fun h9 => ?_) | refine ri_if_neN C 16 dX4_meanWeight_9 rfl (by omega) (fun h9 => ?_) (fun h9 => ?_) | refine ri_if_ne C 16 dX4_meanWeight_9 rfl (fun h9 => ?_) (fun h9 => ?_)
  · first | refine ri_aload_n C dX4_meanWeight_16 rfl ?_ | refine ri_aload_nQ C dX4_meanWeight_16 rfl ?_ | refine ri_aload_nN C dX4_meanWeight_16 rfl ?_
    refine ri_callV C km_X4_allWeights q3307 qs107 dX4_meanWeight_17 (mt_X4_allWeights htr (by first | assumption | (repeat (first | assumption | exact kx_rs (by assumption) | exact kx_ne2 (by omega) | exact kx_ne1 (by omega) | refine kx_ro (by assumption) ?_ ?_ | exact kx_rs rfl | refine kx_ro rfl ?_ ?_))) (by first | assumption | (repeat (first | assumption | exact kx_rs (by assumption) | exact kx_ne2 (by omega) | exact kx_ne1 (by omega) | refine kx_ro (by assumption) ?_ ?_ | exact kx_rs rfl | refine kx_ro rfl ?_ ?_))) hu) rfl rfl (kx_rcN C (by first | assumption | (repeat (first | assumption | exact kx_rs (by assumption) | exact kx_ne2 (by omega) | exact kx_ne1 (by omega) | refine kx_ro (by assumption) ?_ ?_ | exact kx_rs rfl | refine kx_ro rfl ?_ ?_))) rfl) ⟨⟨(Nat.le_of_ble_eq_true rfl), (Nat.le_of_ble_eq_true rfl)⟩, (Nat.le_of_ble_eq_true rfl), (Nat.le_of_ble_eq_true rfl), (Nat.le_of_ble_eq_true rfl)⟩ (fun v17 s17 h17 => ?_) (fun _ _ _ h => h.elim)
    obtain ⟨rfl, rfl⟩ := h17
    refine ri_i2f C dX4_meanWeight_20 ?_
    first | refine ri_aload_n C dX4_meanWeight_21 rfl ?_ | refine ri_aload_nQ C dX4_meanWeight_21 rfl ?_ | refine ri_aload_nN C dX4_meanWeight_21 rfl ?_
    refine ri_callV C km_X4_liveMany q3279 qs103 dX4_meanWeight_22 (mt_X4_liveMany htr (by first | assumption | (repeat (first | assumption | exact kx_rs (by assumption) | exact kx_ne2 (by omega) | exact kx_ne1 (by omega) | refine kx_ro (by assumption) ?_ ?_ | exact kx_rs rfl | refine kx_ro rfl ?_ ?_))) (by first | assumption | (repeat (first | assumption | exact kx_rs (by assumption) | exact kx_ne2 (by omega) | exact kx_ne1 (by omega) | refine kx_ro (by assumption) ?_ ?_ | exact kx_rs rfl | refine kx_ro rfl ?_ ?_))) hu) rfl rfl (kx_rcN C (by first | assumption | (repeat (first | assumption | exact kx_rs (by assumption) | exact kx_ne2 (by omega) | exact kx_ne1 (by omega) | refine kx_ro (by assumption) ?_ ?_ | exact kx_rs rfl | refine kx_ro rfl ?_ ?_))) rfl) ⟨⟨(Nat.le_of_ble_eq_true rfl), (Nat.le_of_ble_eq_true rfl)⟩, (Nat.le_of_ble_eq_true rfl), (Nat.le_of_ble_eq_true rfl), (Nat.le_of_ble_eq_true rfl)⟩ (fun v22 s22 h22 => ?_) (fun _ _ _ h => h.elim)
    obtain ⟨rfl, rfl⟩ := h22
    refine ri_i2f C dX4_meanWeight_25 ?_
    refine ri_fdiv C dX4_meanWeight_26 (fp_fdiv (by omega) (by omega)) ?_
    exact ri_fret C hQ dX4_meanWeight_27 (Nat.le_of_ble_eq_true rfl) (Nat.le_of_ble_eq_true rfl) ⟨by unfold an_mean; first | rw [if_pos h9] | rw [if_neg h9], by assumption⟩
  · refine ri_fconst0 C dX4_meanWeight_12 ?_
    refine ri_goto C 27 dX4_meanWeight_13 rfl ?_
    exact ri_fret C hQ dX4_meanWeight_27 (Nat.le_of_ble_eq_true rfl) (Nat.le_of_ble_eq_true rfl) ⟨by unfold an_mean; first | rw [if_pos h9] | rw [if_neg h9], by assumption⟩
