/-! the reference: what would come -/
set_option maxRecDepth 100000
def mx_lv (wi we : Nat) (u : Nat → Nat) : Nat → Nat → Nat
  | 0 => u
  | k + 1 => mx_day (mx_lv wi we u k) wi we
theorem mx_M_hi {f : Nat → Bool} {we : Nat} {u : Nat → Nat} {i : Nat} (h : 1417 ≤ i) : ∀ n, n ≤ 576 → mx_M f we u n i = u i
  | 0, _ => rfl
  | n + 1, hn => by
    unfold mx_M
    cases f (n / 24) && f (n % 24)
    · exact mx_M_hi h n (by omega)
    · refine Eq.trans ?_ (mx_M_hi (f := f) (we := we) h n (by omega))
      show mx_mt _ _ _ _ i = _
      unfold mx_mt
      rw [mx_s_o (by omega), mx_s_o (by omega)]
theorem mx_pass_hi {u : Nat → Nat} {wi we mo i : Nat} (hu : u 0 ≤ 24) (h : 1417 ≤ i) : mx_pass u wi we mo i = u i := by
  unfold mx_pass mx_inc
  rw [mx_s_o (by omega), mx_year_o (by omega), mx_cn_i (by omega), mx_R_o (by omega) (by omega) (by omega) _ hu, mx_M_hi h _ (by omega)]
theorem mx_ag_hi {wi we v : Nat → Nat} {i : Nat} (h : mx_ok v) (hi : 1417 ≤ i) : ∀ d, mx_ag wi we v d i = v i
  | 0 => rfl
  | d + 1 => (mx_pass_hi (mx_ag_o h d).1 hi).trans (mx_ag_hi h hi d)
theorem mx_cut_i {u Z : Nat → Nat} (h : ∀ j, 1417 ≤ j → Z j = u j) : mx_cut u Z = u := by
  funext j; unfold mx_cut; split
  · rfl
  · exact h j (by omega)
theorem mx_lv_f {u : Nat → Nat} {B wi we : Nat} (h : mx_ok u) (hB : mx_le B u) : ∀ d, mx_ok (mx_lv wi we u d) ∧ mx_lv wi we u d 2 = u 2 + d ∧ mx_le (B + 100 * d) (mx_lv wi we u d) ∧ mx_es u (mx_lv wi we u d) ∧ ∀ i, 1417 ≤ i → mx_lv wi we u d i = u i
  | 0 => ⟨h, rfl, hB, ⟨rfl, fun _ _ _ _ => rfl⟩, fun _ _ => rfl⟩
  | d + 1 => by
    obtain ⟨a, c, e, f, g⟩ := mx_lv_f (wi := wi) (we := we) h hB d
    refine ⟨mx_pass_ok a, ?_, mx_le_m (mx_pass_le a.1 e) (by omega), mx_es_t f (mx_pass_es a.1), fun i hi => (mx_pass_hi a.1 hi).trans (g i hi)⟩
    show mx_pass _ _ _ _ 2 = _
    rw [mx_pass_d a.1, c]; omega
def mx_rt (wi we v : Nat → Nat) : Nat := mx_hits wi we (mx_rw v (v 0)) (v 2)
theorem kx_up_b {σ : kx_H} {a b : kx_T} {x y z : Nat × va_E} (h : σ a = some x) (hab : a ≠ b) : kx_up (kx_up (kx_up σ b y) a z) a x = kx_up σ b y := by
  rw [kx_up_u]; exact kx_up_i (kx_ro rfl h hab)
theorem kx_up_c {σ : kx_H} {a b : kx_T} {x y : Nat × va_E} (h : a ≠ b) : kx_up (kx_up σ a x) b y = kx_up (kx_up σ b y) a x := by
  funext t; unfold kx_up; by_cases g : t = b <;> by_cases f : t = a <;> simp_all
set_option maxHeartbeats 1000000 in
theorem mt_X4_rightWhen {l : Launch} {G : kx_G} (htr : l.stackTraces = false) {σ : kx_H} {mo : Nat} {ad : Nat → Nat} {z : Nat → Int32} {u : Nat → Nat} {k x : Nat} (h0 : σ (1, 0) = some (mo, .inr (3, mo_L ad z))) (hw : σ (1, 1) = some (ad 0, kx_ai G 1417 (mx_w u))) {L : Nat → Int32} (hl : σ (1, 6) = some (ad 5, kx_ai G 2160 L)) {A : Nat → Int32} (ha : σ (1, 3) = some (ad 2, kx_ai G 1417 A)) (hk : k < 1417) (h2 : k ≠ 2) (hu : mx_ok (mx_s u k x)) {wi we : Nat → Nat} (hg : ∀ d, d < u 2 → L (3 * d) = nI (wi d) ∧ wi d < 16 ∧ L (3 * d + 1) = nI (we d) ∧ we d < 5) {B : Nat} (hB : mx_le B (mx_s u k x)) (hb : B < 700000000) (hd : u 2 ≤ 720) : kx_SP l G yX4_rightWhen (ws_ yX4_rightWhen cX4_rightWhen 3 (some .int)) 11 0 0 [.ref mo, .int (nI k), .int (nI x)] σ (fun v τ => v = some (.int (nI (mx_rt wi we (mx_s u k x)))) ∧ ∃ A', τ = kx_up σ (1, 3) (ad 2, kx_ai G 1417 A')) kx_nx := by
  refine kx_body htr (by decide +kernel) (own := "RoseProverbsModel") (nm := "rightWhen") rfl rfl (Nat.le_of_ble_eq_true rfl) ?_
  intro p e s m args below meth c Q C hQ
  have e2 : mx_s u k x 2 = u 2 := mx_s_o (fun e => h2 e.symm)
  first | refine ri_aload_n C dX4_rightWhen_0 rfl ?_ | refine ri_aload_nQ C dX4_rightWhen_0 rfl ?_ | refine ri_aload_nN C dX4_rightWhen_0 rfl ?_
  refine ri_callV C km_X4_goesAside q3442 qs123 dX4_rightWhen_1 (mt_X4_goesAside htr h0 hw ha) rfl rfl (kx_rcN C (by first | assumption | (repeat (first | assumption | exact kx_rs (by assumption) | exact kx_ne2 (by omega) | exact kx_ne1 (by omega) | refine kx_ro (by assumption) ?_ ?_ | exact kx_rs rfl | refine kx_ro rfl ?_ ?_))) rfl) ⟨⟨(Nat.le_of_ble_eq_true rfl), (Nat.le_of_ble_eq_true rfl)⟩, (Nat.le_of_ble_eq_true rfl), (Nat.le_of_ble_eq_true rfl), (Nat.le_of_ble_eq_true rfl)⟩ (fun v1 s1 h1 => ?_) (fun _ _ _ h => h.elim)
  obtain ⟨rfl, e1⟩ := h1
  first | refine ri_aload_n C dX4_rightWhen_4 rfl ?_ | refine ri_aload_nQ C dX4_rightWhen_4 rfl ?_ | refine ri_aload_nN C dX4_rightWhen_4 rfl ?_
  refine ri_getf C dX4_rightWhen_5 fr_q2970_3 (by first | assumption | (repeat (first | assumption | exact kx_rs (by assumption) | exact kx_ne2 (by omega) | exact kx_ne1 (by omega) | refine kx_ro (by assumption) ?_ ?_ | exact kx_rs rfl | refine kx_ro rfl ?_ ?_))) (by rfl) ?_
  refine ri_iload_n C dX4_rightWhen_8 rfl ?_
  refine ri_iload_n C dX4_rightWhen_9 rfl ?_
  refine ri_iastore C dX4_rightWhen_10 (by first | assumption | (repeat (first | assumption | exact kx_rs (by assumption) | exact kx_ne2 (by omega) | exact kx_ne1 (by omega) | refine kx_ro (by assumption) ?_ ?_ | exact kx_rs rfl | refine kx_ro rfl ?_ ?_))) rfl (by omega) (fun s10 e10 => ?_)
  rw [mx_upd] at e10
  first | refine ri_aload_n C dX4_rightWhen_11 rfl ?_ | refine ri_aload_nQ C dX4_rightWhen_11 rfl ?_ | refine ri_aload_nN C dX4_rightWhen_11 rfl ?_
  first | refine ri_aload_n C dX4_rightWhen_12 rfl ?_ | refine ri_aload_nQ C dX4_rightWhen_12 rfl ?_ | refine ri_aload_nN C dX4_rightWhen_12 rfl ?_
  refine ri_callV C km_X4_again q3462 qs126 dX4_rightWhen_13 (mt_X4_again htr (by first | assumption | (repeat (first | assumption | exact kx_rs (by assumption) | exact kx_ne2 (by omega) | exact kx_ne1 (by omega) | refine kx_ro (by assumption) ?_ ?_ | exact kx_rs rfl | refine kx_ro rfl ?_ ?_))) (by first | assumption | (repeat (first | assumption | exact kx_rs (by assumption) | exact kx_ne2 (by omega) | exact kx_ne1 (by omega) | refine kx_ro (by assumption) ?_ ?_ | exact kx_rs rfl | refine kx_ro rfl ?_ ?_))) (by first | assumption | (repeat (first | assumption | exact kx_rs (by assumption) | exact kx_ne2 (by omega) | exact kx_ne1 (by omega) | refine kx_ro (by assumption) ?_ ?_ | exact kx_rs rfl | refine kx_ro rfl ?_ ?_))) hu (wi := wi) (we := we) (by rw [e2]; exact hg) hB (by omega) (by omega)) rfl rfl (kx_rcN C (by first | assumption | (repeat (first | assumption | exact kx_rs (by assumption) | exact kx_ne2 (by omega) | exact kx_ne1 (by omega) | refine kx_ro (by assumption) ?_ ?_ | exact kx_rs rfl | refine kx_ro rfl ?_ ?_))) rfl) ⟨⟨(Nat.le_of_ble_eq_true rfl), (Nat.le_of_ble_eq_true rfl)⟩, (Nat.le_of_ble_eq_true rfl), (Nat.le_of_ble_eq_true rfl), (Nat.le_of_ble_eq_true rfl)⟩ (fun v13 s13 h13 => ?_) (fun _ _ _ h => h.elim)
  obtain ⟨rfl, e13⟩ := h13
  refine ri_callV C km_X4_goesBack q3446 qs124 dX4_rightWhen_16 (mt_X4_goesBack htr (q := u) (by first | assumption | (repeat (first | assumption | exact kx_rs (by assumption) | exact kx_ne2 (by omega) | exact kx_ne1 (by omega) | refine kx_ro (by assumption) ?_ ?_ | exact kx_rs rfl | refine kx_ro rfl ?_ ?_))) (by first | assumption | (repeat (first | assumption | exact kx_rs (by assumption) | exact kx_ne2 (by omega) | exact kx_ne1 (by omega) | refine kx_ro (by assumption) ?_ ?_ | exact kx_rs rfl | refine kx_ro rfl ?_ ?_))) (by first | assumption | (repeat (first | assumption | exact kx_rs (by assumption) | exact kx_ne2 (by omega) | exact kx_ne1 (by omega) | refine kx_ro (by assumption) ?_ ?_ | exact kx_rs rfl | refine kx_ro rfl ?_ ?_))) (by intro j hj; exact mx_cut_r j hj)) rfl rfl (kx_rcN C (by first | assumption | (repeat (first | assumption | exact kx_rs (by assumption) | exact kx_ne2 (by omega) | exact kx_ne1 (by omega) | refine kx_ro (by assumption) ?_ ?_ | exact kx_rs rfl | refine kx_ro rfl ?_ ?_))) rfl) ⟨⟨(Nat.le_of_ble_eq_true rfl), (Nat.le_of_ble_eq_true rfl)⟩, (Nat.le_of_ble_eq_true rfl), (Nat.le_of_ble_eq_true rfl), (Nat.le_of_ble_eq_true rfl)⟩ (fun v16 s16 h16 => ?_) (fun _ _ _ h => h.elim)
  obtain ⟨rfl, e16⟩ := h16
  exact ri_iret C hQ dX4_rightWhen_19 rfl (Nat.le_of_ble_eq_true rfl) (Nat.le_of_ble_eq_true rfl) ⟨rfl, _, by rw [e16, mx_cut_i (fun j hj => ?_), e13, e10, e1, kx_up_u, kx_up_b hw (by decide)]; exact (mx_ag_hi (mx_rw_ok hu _ (Nat.le_refl _)) hj _).trans ((mx_rw_i (Or.inr (by omega)) _ hu.1).trans (mx_s_o (by omega)))⟩
def an_rightBy (u wi we : Nat → Nat) (x : Int32) : Nat × Int32 := an_c (mx_ix x 3) 1 (0, nI (mx_rt wi we (mx_s u 5 (mx_n x))))
def mx_br (g : Nat → Nat) : Nat → Nat × Nat
  | 0 => (0, g 0)
  | k + 1 => (if (mx_br g k).2 < g (k + 1) then k + 1 else (mx_br g k).1, Nat.max (mx_br g k).2 (g (k + 1)))
def an_bestRule (u wi we : Nat → Nat) : Nat := (mx_br (fun r => mx_rt wi we (mx_s u 5 r)) 2).1
def an_rightWith (u wi we : Nat → Nat) (x y : Int32) : Nat × Int32 := an_c (mx_ix x 51 && mx_ix y 51) 1 (0, nI (mx_rt wi we (mx_s (mx_s u 6 (mx_n x)) 7 (mx_n y))))
def an_harmOf (u wi we : Nat → Nat) (x : Int32) : Nat × Int32 := an_c (mx_ix x (u 0)) 1 (0, nI (mx_rt wi we (mx_pp u (mx_n x) 9 1)) - nI (mx_rt wi we u))
def mx_rc (u : Nat → Nat) (k n : Nat) : Bool := !decide (mx_told (mx_pp u k 9 1) (n / 12) (n % 12) = mx_told u (n / 12) (n % 12))
def an_reachOf (u : Nat → Nat) (x : Int32) : Nat × Int32 := an_c (mx_ix x (u 0)) 1 (0, nI (mx_cnt (mx_rc u (mx_n x)) 192))
def mx_tg (u : Nat → Nat) (wi we k : Nat) : Bool := decide (mx_told (mx_lv wi we u k) wi (mx_mon (mx_lv wi we u k)) = some we)
def an_turnsIn (u : Nat → Nat) (x y : Int32) : Nat × Int32 := an_c (mx_ix x 16) 1 (an_c (mx_ix y 5) 2 (0, mx_o (mx_fst (mx_tg u (mx_n x) (mx_n y)) 100)))
def an_weightIn (u : Nat → Nat) (q x y d : Int32) : Nat × Int32 := an_c (mx_ix q (u 0)) 1 (an_c (mx_ix x 16) 1 (an_c (mx_ix y 5) 2 (an_c (mx_ix d 100) 2 (0, nI (mx_p (mx_lv (mx_n x) (mx_n y) u (mx_n d)) (mx_n q) 6)))))
theorem mx_ok_s5 {u : Nat → Nat} {x : Nat} (hu : mx_ok u) (hx : x ≤ 2) : mx_ok (mx_s u 5 x) := by
  obtain ⟨k0, k, k5, k6, k7⟩ := hu
  refine ⟨k0, fun q hq => ?_, hx, k6, k7⟩
  have g : ∀ j, mx_p (mx_s u 5 x) q j = mx_p u q j := fun j => mx_s_o (by omega)
  simp only [g]; exact k q hq
theorem mx_ok_s67 {u : Nat → Nat} {x y : Nat} (hu : mx_ok u) (hx : x ≤ 50) (hy : y ≤ 50) : mx_ok (mx_s (mx_s u 6 x) 7 y) := by
  obtain ⟨k0, k, k5, k6, k7⟩ := hu
  refine ⟨k0, fun q hq => ?_, k5, hx, hy⟩
  have g : ∀ j, mx_p (mx_s (mx_s u 6 x) 7 y) q j = mx_p u q j := fun j => (mx_s_o (by omega)).trans (mx_s_o (by omega))
  simp only [g]; exact k q hq
theorem mx_ok_p9 {u : Nat → Nat} {n : Nat} (hu : mx_ok u) : mx_ok (mx_pp u n 9 1) := by
  obtain ⟨k0, k, k5, k6, k7⟩ := hu
  have e : ∀ i, i < 25 → mx_pp u n 9 1 i = u i := fun i hi => mx_pp_i hi
  refine ⟨by rw [e 0 (by omega)]; exact k0, fun q hq => ?_, by rw [e 5 (by omega)]; exact k5, by rw [e 6 (by omega)]; exact k6, by rw [e 7 (by omega)]; exact k7⟩
  rw [e 0 (by omega)] at hq
  have g : ∀ j, j < 9 → mx_p (mx_pp u n 9 1) q j = mx_p u q j := fun j hj => mx_pp_o (by omega)
  have kq := k q hq
  rw [g 0 (by omega), g 1 (by omega), g 2 (by omega), g 3 (by omega), g 4 (by omega), g 5 (by omega), g 6 (by omega)]
  refine ⟨kq.1, kq.2.1, kq.2.2.1, kq.2.2.2.1, kq.2.2.2.2.1, kq.2.2.2.2.2.1, kq.2.2.2.2.2.2.1, kq.2.2.2.2.2.2.2.1, kq.2.2.2.2.2.2.2.2.1, ?_⟩
  by_cases c : q = n
  · subst c; rw [mx_pp_s]; omega
  · rw [mx_pp_o (by omega)]; exact kq.2.2.2.2.2.2.2.2.2
theorem mx_le_s {B k x : Nat} {u : Nat → Nat} (h : mx_le B u) (hx : x ≤ B) : mx_le B (mx_s u k x) := fun i hi => by
  unfold mx_s; split
  · exact hx
  · exact h i hi
theorem mx_s_id {u : Nat → Nat} {k : Nat} : mx_s u k (u k) = u := by
  funext i; unfold mx_s; split
  · rename_i e; rw [e]
  · rfl
theorem kx_A_i {G : kx_G} {σ τ : kx_H} {c : Nat} {A : Nat → Int32} {x : Nat × va_E} (h : σ (1, 3) = some (c, kx_ai G 1417 A)) (e : τ = kx_up σ (1, 0) x) : ∃ A', τ = kx_up (kx_up σ (1, 0) x) (1, 3) (c, kx_ai G 1417 A') :=
  ⟨A, by rw [e]; exact (kx_up_i (kx_ro rfl h (by decide))).symm⟩
set_option maxHeartbeats 1000000 in
theorem mt_X4_rightBy {l : Launch} {G : kx_G} (htr : l.stackTraces = false) {σ : kx_H} {mo : Nat} {ad : Nat → Nat} {z : Nat → Int32} {u : Nat → Nat} {x : Int32} (h0 : σ (1, 0) = some (mo, .inr (3, mo_L ad z))) (hw : σ (1, 1) = some (ad 0, kx_ai G 1417 (mx_w u))) {L : Nat → Int32} (hl : σ (1, 6) = some (ad 5, kx_ai G 2160 L)) {A : Nat → Int32} (ha : σ (1, 3) = some (ad 2, kx_ai G 1417 A)) (hu : mx_ok u) {wi we : Nat → Nat} (hg : ∀ d, d < u 2 → L (3 * d) = nI (wi d) ∧ wi d < 16 ∧ L (3 * d + 1) = nI (we d) ∧ we d < 5) {B : Nat} (hB : mx_le B u) (hb0 : 1000 ≤ B) (hb : B < 700000000) (hd : u 2 ≤ 720) : kx_SP l G yX4_rightBy (ws_ yX4_rightBy cX4_rightBy 2 (some .int)) 12 0 0 [.ref mo, .int x] σ (fun v τ => v = some (.int (an_rightBy u wi we x).2) ∧ ∃ A', τ = kx_up (kx_up σ (1, 0) (mo, .inr (3, mo_L ad (mo_z z 9 (nI (an_rightBy u wi we x).1))))) (1, 3) (ad 2, kx_ai G 1417 A')) kx_nx := by
  refine kx_body htr (by decide +kernel) (own := "RoseProverbsModel") (nm := "rightBy") rfl rfl (Nat.le_of_ble_eq_true rfl) ?_
  intro p e s m args below meth c Q C hQ
  first | refine ri_aload_n C dX4_rightBy_0 rfl ?_ | refine ri_aload_nQ C dX4_rightBy_0 rfl ?_ | refine ri_aload_nN C dX4_rightBy_0 rfl ?_
  refine ri_iconst C dX4_rightBy_1 kc_i0 ?_
  refine ri_putf C dX4_rightBy_2 fd_q2979_3 (fun h => nomatch h) (by first | assumption | (repeat (first | assumption | exact kx_rs (by assumption) | exact kx_ne2 (by omega) | exact kx_ne1 (by omega) | refine kx_ro (by assumption) ?_ ?_ | exact kx_rs rfl | refine kx_ro rfl ?_ ?_))) (Nat.le_of_ble_eq_true rfl) (by rfl) (by rfl) mo_set9 (fun s2 e2 => ?_)
  first | refine ri_aload_n C dX4_rightBy_5 rfl ?_ | refine ri_aload_nQ C dX4_rightBy_5 rfl ?_ | refine ri_aload_nN C dX4_rightBy_5 rfl ?_
  refine ri_iload_n C dX4_rightBy_6 rfl ?_
  refine ri_iconst C dX4_rightBy_7 kc_i0 ?_
  refine ri_iconst C dX4_rightBy_8 kc_i2 ?_
  cases c1 : mx_ix x 3
  · refine ri_callS C km_X4_inRange q3071 dX4_rightBy_9 (mt_X4_inRange htr) rfl rfl ⟨⟨(Nat.le_of_ble_eq_true rfl), (Nat.le_of_ble_eq_true rfl)⟩, (Nat.le_of_ble_eq_true rfl), (Nat.le_of_ble_eq_true rfl), (Nat.le_of_ble_eq_true rfl)⟩ (fun v9 s9 h9 => ?_) (fun _ _ _ h => h.elim)
    obtain ⟨rfl, rfl⟩ := h9
    rw [mx_ix_0 (by decide), c1]
    first | refine ri_if_neB C 19 dX4_rightBy_12 rfl (fun h12 => ?_) (fun h12 => ?_) | refine ri_if_neN C 19 dX4_rightBy_12 rfl (by omega) (fun h12 => ?_) (fun h12 => ?_) | refine ri_if_ne C 19 dX4_rightBy_12 rfl (fun h12 => ?_) (fun h12 => ?_)
    · exact absurd h12 (by decide) --dead
    · refine ri_iconst C dX4_rightBy_15 kc_i1 ?_
      refine ri_goto C 20 dX4_rightBy_16 rfl ?_
      refine ri_iconst C dX4_rightBy_20 kc_i1 ?_
      refine ri_callV C km_X4_fails q3303 qs106 dX4_rightBy_21 (mt_X4_fails htr (b := true) (by first | assumption | (repeat (first | assumption | exact kx_rs (by assumption) | exact kx_ne2 (by omega) | exact kx_ne1 (by omega) | refine kx_ro (by assumption) ?_ ?_ | exact kx_rs rfl | refine kx_ro rfl ?_ ?_)))) rfl rfl (kx_rcN C (by first | assumption | (repeat (first | assumption | exact kx_rs (by assumption) | exact kx_ne2 (by omega) | exact kx_ne1 (by omega) | refine kx_ro (by assumption) ?_ ?_ | exact kx_rs rfl | refine kx_ro rfl ?_ ?_))) rfl) ⟨⟨(Nat.le_of_ble_eq_true rfl), (Nat.le_of_ble_eq_true rfl)⟩, (Nat.le_of_ble_eq_true rfl), (Nat.le_of_ble_eq_true rfl), (Nat.le_of_ble_eq_true rfl)⟩ (fun v21 s21 h21 => ?_) (fun _ _ _ h => h.elim)
      obtain ⟨rfl, e21⟩ := h21
      rw [cond_true] at e21
      first | refine ri_if_eqB C 31 dX4_rightBy_24 rfl (fun h24 => ?_) (fun h24 => ?_) | refine ri_if_eqN C 31 dX4_rightBy_24 rfl (by omega) (fun h24 => ?_) (fun h24 => ?_) | refine ri_if_eq C 31 dX4_rightBy_24 rfl (fun h24 => ?_) (fun h24 => ?_)
      · exact absurd h24 (by decide) --dead
      · refine ri_iconst C dX4_rightBy_27 kc_i0 ?_
        refine ri_goto C 37 dX4_rightBy_28 rfl ?_
        exact ri_iret C hQ dX4_rightBy_37 rfl (Nat.le_of_ble_eq_true rfl) (Nat.le_of_ble_eq_true rfl) (by refine ⟨by simp only [an_rightBy, an_c, *, Bool.and_true, Bool.and_false, Bool.true_and, Bool.false_and, cond_true, cond_false] <;> rfl, kx_A_i ha ?_⟩; simp only [an_rightBy, an_c, *, Bool.and_true, Bool.and_false, Bool.true_and, Bool.false_and, cond_true, cond_false, kx_up_u, mo_z_z])
  · obtain ⟨k1, hk1, rfl⟩ := mx_ix_t c1
    have nk1 : mx_n (nI k1) = k1 := mx_n_nI (by omega)
    refine ri_callS C km_X4_inRange q3071 dX4_rightBy_9 (mt_X4_inRange htr) rfl rfl ⟨⟨(Nat.le_of_ble_eq_true rfl), (Nat.le_of_ble_eq_true rfl)⟩, (Nat.le_of_ble_eq_true rfl), (Nat.le_of_ble_eq_true rfl), (Nat.le_of_ble_eq_true rfl)⟩ (fun v9 s9 h9 => ?_) (fun _ _ _ h => h.elim)
    obtain ⟨rfl, rfl⟩ := h9
    rw [mx_ix_0 (by decide), c1]
    first | refine ri_if_neB C 19 dX4_rightBy_12 rfl (fun h12 => ?_) (fun h12 => ?_) | refine ri_if_neN C 19 dX4_rightBy_12 rfl (by omega) (fun h12 => ?_) (fun h12 => ?_) | refine ri_if_ne C 19 dX4_rightBy_12 rfl (fun h12 => ?_) (fun h12 => ?_)
    · refine ri_iconst C dX4_rightBy_19 kc_i0 ?_
      refine ri_iconst C dX4_rightBy_20 kc_i1 ?_
      refine ri_callV C km_X4_fails q3303 qs106 dX4_rightBy_21 (mt_X4_fails htr (b := false) (by first | assumption | (repeat (first | assumption | exact kx_rs (by assumption) | exact kx_ne2 (by omega) | exact kx_ne1 (by omega) | refine kx_ro (by assumption) ?_ ?_ | exact kx_rs rfl | refine kx_ro rfl ?_ ?_)))) rfl rfl (kx_rcN C (by first | assumption | (repeat (first | assumption | exact kx_rs (by assumption) | exact kx_ne2 (by omega) | exact kx_ne1 (by omega) | refine kx_ro (by assumption) ?_ ?_ | exact kx_rs rfl | refine kx_ro rfl ?_ ?_))) rfl) ⟨⟨(Nat.le_of_ble_eq_true rfl), (Nat.le_of_ble_eq_true rfl)⟩, (Nat.le_of_ble_eq_true rfl), (Nat.le_of_ble_eq_true rfl), (Nat.le_of_ble_eq_true rfl)⟩ (fun v21 s21 h21 => ?_) (fun _ _ _ h => h.elim)
      obtain ⟨rfl, e21⟩ := h21
      rw [cond_false] at e21
      subst e21
      first | refine ri_if_eqB C 31 dX4_rightBy_24 rfl (fun h24 => ?_) (fun h24 => ?_) | refine ri_if_eqN C 31 dX4_rightBy_24 rfl (by omega) (fun h24 => ?_) (fun h24 => ?_) | refine ri_if_eq C 31 dX4_rightBy_24 rfl (fun h24 => ?_) (fun h24 => ?_)
      · first | refine ri_aload_n C dX4_rightBy_31 rfl ?_ | refine ri_aload_nQ C dX4_rightBy_31 rfl ?_ | refine ri_aload_nN C dX4_rightBy_31 rfl ?_
        refine ri_iconst C dX4_rightBy_32 kc_i5 ?_
        refine ri_iload_n C dX4_rightBy_33 rfl ?_
        refine ri_callV C km_X4_rightWhen q3458 qs125 dX4_rightBy_34 (mt_X4_rightWhen htr (by first | assumption | (repeat (first | assumption | exact kx_rs (by assumption) | exact kx_ne2 (by omega) | exact kx_ne1 (by omega) | refine kx_ro (by assumption) ?_ ?_ | exact kx_rs rfl | refine kx_ro rfl ?_ ?_))) (by first | assumption | (repeat (first | assumption | exact kx_rs (by assumption) | exact kx_ne2 (by omega) | exact kx_ne1 (by omega) | refine kx_ro (by assumption) ?_ ?_ | exact kx_rs rfl | refine kx_ro rfl ?_ ?_))) (by first | assumption | (repeat (first | assumption | exact kx_rs (by assumption) | exact kx_ne2 (by omega) | exact kx_ne1 (by omega) | refine kx_ro (by assumption) ?_ ?_ | exact kx_rs rfl | refine kx_ro rfl ?_ ?_))) (by first | assumption | (repeat (first | assumption | exact kx_rs (by assumption) | exact kx_ne2 (by omega) | exact kx_ne1 (by omega) | refine kx_ro (by assumption) ?_ ?_ | exact kx_rs rfl | refine kx_ro rfl ?_ ?_))) (by omega) (by omega) (mx_ok_s5 hu (by omega)) hg (mx_le_s hB (by omega)) hb hd) rfl rfl (kx_rcN C (by first | assumption | (repeat (first | assumption | exact kx_rs (by assumption) | exact kx_ne2 (by omega) | exact kx_ne1 (by omega) | refine kx_ro (by assumption) ?_ ?_ | exact kx_rs rfl | refine kx_ro rfl ?_ ?_))) rfl) ⟨⟨(Nat.le_of_ble_eq_true rfl), (Nat.le_of_ble_eq_true rfl)⟩, (Nat.le_of_ble_eq_true rfl), (Nat.le_of_ble_eq_true rfl), (Nat.le_of_ble_eq_true rfl)⟩ (fun v34 s34 h34 => ?_) (fun _ _ _ h => h.elim)
        obtain ⟨rfl, A1, e34⟩ := h34
        exact ri_iret C hQ dX4_rightBy_37 rfl (Nat.le_of_ble_eq_true rfl) (Nat.le_of_ble_eq_true rfl) (by simp only [an_rightBy, an_c, c1, cond_true, nk1]; exact ⟨by first | rfl | trivial, A1, by rw [e34, e2]⟩)
      · exact absurd h24 (by decide) --dead
    · exact absurd h12 (by decide) --dead
set_option maxHeartbeats 1000000 in
theorem mt_X4_rightWith {l : Launch} {G : kx_G} (htr : l.stackTraces = false) {σ : kx_H} {mo : Nat} {ad : Nat → Nat} {z : Nat → Int32} {u : Nat → Nat} {x y : Int32} (h0 : σ (1, 0) = some (mo, .inr (3, mo_L ad z))) (hw : σ (1, 1) = some (ad 0, kx_ai G 1417 (mx_w u))) {L : Nat → Int32} (hl : σ (1, 6) = some (ad 5, kx_ai G 2160 L)) {A : Nat → Int32} (ha : σ (1, 3) = some (ad 2, kx_ai G 1417 A)) (hu : mx_ok u) {wi we : Nat → Nat} (hg : ∀ d, d < u 2 → L (3 * d) = nI (wi d) ∧ wi d < 16 ∧ L (3 * d + 1) = nI (we d) ∧ we d < 5) {B : Nat} (hB : mx_le B u) (hb0 : 1000 ≤ B) (hb : B < 700000000) (hd : u 2 ≤ 720) : kx_SP l G yX4_rightWith (ws_ yX4_rightWith cX4_rightWith 3 (some .int)) 12 0 0 [.ref mo, .int x, .int y] σ (fun v τ => v = some (.int (an_rightWith u wi we x y).2) ∧ ∃ A', τ = kx_up (kx_up σ (1, 0) (mo, .inr (3, mo_L ad (mo_z z 9 (nI (an_rightWith u wi we x y).1))))) (1, 3) (ad 2, kx_ai G 1417 A')) kx_nx := by
  refine kx_body htr (by decide +kernel) (own := "RoseProverbsModel") (nm := "rightWith") rfl rfl (Nat.le_of_ble_eq_true rfl) ?_
  intro p e s m args below meth c Q C hQ
  first | refine ri_aload_n C dX4_rightWith_0 rfl ?_ | refine ri_aload_nQ C dX4_rightWith_0 rfl ?_ | refine ri_aload_nN C dX4_rightWith_0 rfl ?_
  refine ri_iconst C dX4_rightWith_1 kc_i0 ?_
  refine ri_putf C dX4_rightWith_2 fd_q2979_3 (fun h => nomatch h) (by first | assumption | (repeat (first | assumption | exact kx_rs (by assumption) | exact kx_ne2 (by omega) | exact kx_ne1 (by omega) | refine kx_ro (by assumption) ?_ ?_ | exact kx_rs rfl | refine kx_ro rfl ?_ ?_))) (Nat.le_of_ble_eq_true rfl) (by rfl) (by rfl) mo_set9 (fun s2 e2 => ?_)
  cases c1 : mx_ix x 51
  · first | refine ri_aload_n C dX4_rightWith_5 rfl ?_ | refine ri_aload_nQ C dX4_rightWith_5 rfl ?_ | refine ri_aload_nN C dX4_rightWith_5 rfl ?_
    refine ri_iload_n C dX4_rightWith_6 rfl ?_
    refine ri_iconst C dX4_rightWith_7 kc_i0 ?_
    refine ri_bipush C dX4_rightWith_8 kc_b50 ?_
    refine ri_callS C km_X4_inRange q3071 dX4_rightWith_10 (mt_X4_inRange htr) rfl rfl ⟨⟨(Nat.le_of_ble_eq_true rfl), (Nat.le_of_ble_eq_true rfl)⟩, (Nat.le_of_ble_eq_true rfl), (Nat.le_of_ble_eq_true rfl), (Nat.le_of_ble_eq_true rfl)⟩ (fun v10 s10 h10 => ?_) (fun _ _ _ h => h.elim)
    obtain ⟨rfl, rfl⟩ := h10
    rw [mx_ix_0 (by decide), c1]
    first | refine ri_if_eqB C 26 dX4_rightWith_13 rfl (fun h13 => ?_) (fun h13 => ?_) | refine ri_if_eqN C 26 dX4_rightWith_13 rfl (by omega) (fun h13 => ?_) (fun h13 => ?_) | refine ri_if_eq C 26 dX4_rightWith_13 rfl (fun h13 => ?_) (fun h13 => ?_)
    · refine ri_iconst C dX4_rightWith_26 kc_i1 ?_
      refine ri_goto C 31 dX4_rightWith_27 rfl ?_
      refine ri_iconst C dX4_rightWith_31 kc_i1 ?_
      refine ri_callV C km_X4_fails q3303 qs106 dX4_rightWith_32 (mt_X4_fails htr (b := true) (by first | assumption | (repeat (first | assumption | exact kx_rs (by assumption) | exact kx_ne2 (by omega) | exact kx_ne1 (by omega) | refine kx_ro (by assumption) ?_ ?_ | exact kx_rs rfl | refine kx_ro rfl ?_ ?_)))) rfl rfl (kx_rcN C (by first | assumption | (repeat (first | assumption | exact kx_rs (by assumption) | exact kx_ne2 (by omega) | exact kx_ne1 (by omega) | refine kx_ro (by assumption) ?_ ?_ | exact kx_rs rfl | refine kx_ro rfl ?_ ?_))) rfl) ⟨⟨(Nat.le_of_ble_eq_true rfl), (Nat.le_of_ble_eq_true rfl)⟩, (Nat.le_of_ble_eq_true rfl), (Nat.le_of_ble_eq_true rfl), (Nat.le_of_ble_eq_true rfl)⟩ (fun v32 s32 h32 => ?_) (fun _ _ _ h => h.elim)
      obtain ⟨rfl, e32⟩ := h32
      rw [cond_true] at e32
      first | refine ri_if_eqB C 40 dX4_rightWith_35 rfl (fun h35 => ?_) (fun h35 => ?_) | refine ri_if_eqN C 40 dX4_rightWith_35 rfl (by omega) (fun h35 => ?_) (fun h35 => ?_) | refine ri_if_eq C 40 dX4_rightWith_35 rfl (fun h35 => ?_) (fun h35 => ?_)
      · exact absurd h35 (by decide) --dead
      · refine ri_iconst C dX4_rightWith_38 kc_i0 ?_
        exact ri_iret C hQ dX4_rightWith_39 rfl (Nat.le_of_ble_eq_true rfl) (Nat.le_of_ble_eq_true rfl) (by refine ⟨by simp only [an_rightWith, an_c, *, Bool.and_true, Bool.and_false, Bool.true_and, Bool.false_and, cond_true, cond_false] <;> rfl, kx_A_i ha ?_⟩; simp only [an_rightWith, an_c, *, Bool.and_true, Bool.and_false, Bool.true_and, Bool.false_and, cond_true, cond_false, kx_up_u, mo_z_z])
    · exact absurd h13 (by decide) --dead
  · obtain ⟨k1, hk1, rfl⟩ := mx_ix_t c1
    have nk1 : mx_n (nI k1) = k1 := mx_n_nI (by omega)
    first | refine ri_aload_n C dX4_rightWith_5 rfl ?_ | refine ri_aload_nQ C dX4_rightWith_5 rfl ?_ | refine ri_aload_nN C dX4_rightWith_5 rfl ?_
    refine ri_iload_n C dX4_rightWith_6 rfl ?_
    refine ri_iconst C dX4_rightWith_7 kc_i0 ?_
    refine ri_bipush C dX4_rightWith_8 kc_b50 ?_
    refine ri_callS C km_X4_inRange q3071 dX4_rightWith_10 (mt_X4_inRange htr) rfl rfl ⟨⟨(Nat.le_of_ble_eq_true rfl), (Nat.le_of_ble_eq_true rfl)⟩, (Nat.le_of_ble_eq_true rfl), (Nat.le_of_ble_eq_true rfl), (Nat.le_of_ble_eq_true rfl)⟩ (fun v10 s10 h10 => ?_) (fun _ _ _ h => h.elim)
    obtain ⟨rfl, rfl⟩ := h10
    rw [mx_ix_0 (by decide), c1]
    first | refine ri_if_eqB C 26 dX4_rightWith_13 rfl (fun h13 => ?_) (fun h13 => ?_) | refine ri_if_eqN C 26 dX4_rightWith_13 rfl (by omega) (fun h13 => ?_) (fun h13 => ?_) | refine ri_if_eq C 26 dX4_rightWith_13 rfl (fun h13 => ?_) (fun h13 => ?_)
    · exact absurd h13 (by decide) --dead
    · cases c2 : mx_ix y 51
      · refine ri_iload_n C dX4_rightWith_16 rfl ?_
        refine ri_iconst C dX4_rightWith_17 kc_i0 ?_
        refine ri_bipush C dX4_rightWith_18 kc_b50 ?_
        refine ri_callS C km_X4_inRange q3071 dX4_rightWith_20 (mt_X4_inRange htr) rfl rfl ⟨⟨(Nat.le_of_ble_eq_true rfl), (Nat.le_of_ble_eq_true rfl)⟩, (Nat.le_of_ble_eq_true rfl), (Nat.le_of_ble_eq_true rfl), (Nat.le_of_ble_eq_true rfl)⟩ (fun v20 s20 h20 => ?_) (fun _ _ _ h => h.elim)
        obtain ⟨rfl, rfl⟩ := h20
        rw [mx_ix_0 (by decide), c2]
        first | refine ri_if_neB C 30 dX4_rightWith_23 rfl (fun h23 => ?_) (fun h23 => ?_) | refine ri_if_neN C 30 dX4_rightWith_23 rfl (by omega) (fun h23 => ?_) (fun h23 => ?_) | refine ri_if_ne C 30 dX4_rightWith_23 rfl (fun h23 => ?_) (fun h23 => ?_)
        · exact absurd h23 (by decide) --dead
        · refine ri_iconst C dX4_rightWith_26 kc_i1 ?_
          refine ri_goto C 31 dX4_rightWith_27 rfl ?_
          refine ri_iconst C dX4_rightWith_31 kc_i1 ?_
          refine ri_callV C km_X4_fails q3303 qs106 dX4_rightWith_32 (mt_X4_fails htr (b := true) (by first | assumption | (repeat (first | assumption | exact kx_rs (by assumption) | exact kx_ne2 (by omega) | exact kx_ne1 (by omega) | refine kx_ro (by assumption) ?_ ?_ | exact kx_rs rfl | refine kx_ro rfl ?_ ?_)))) rfl rfl (kx_rcN C (by first | assumption | (repeat (first | assumption | exact kx_rs (by assumption) | exact kx_ne2 (by omega) | exact kx_ne1 (by omega) | refine kx_ro (by assumption) ?_ ?_ | exact kx_rs rfl | refine kx_ro rfl ?_ ?_))) rfl) ⟨⟨(Nat.le_of_ble_eq_true rfl), (Nat.le_of_ble_eq_true rfl)⟩, (Nat.le_of_ble_eq_true rfl), (Nat.le_of_ble_eq_true rfl), (Nat.le_of_ble_eq_true rfl)⟩ (fun v32 s32 h32 => ?_) (fun _ _ _ h => h.elim)
          obtain ⟨rfl, e32⟩ := h32
          rw [cond_true] at e32
          first | refine ri_if_eqB C 40 dX4_rightWith_35 rfl (fun h35 => ?_) (fun h35 => ?_) | refine ri_if_eqN C 40 dX4_rightWith_35 rfl (by omega) (fun h35 => ?_) (fun h35 => ?_) | refine ri_if_eq C 40 dX4_rightWith_35 rfl (fun h35 => ?_) (fun h35 => ?_)
          · exact absurd h35 (by decide) --dead
          · refine ri_iconst C dX4_rightWith_38 kc_i0 ?_
            exact ri_iret C hQ dX4_rightWith_39 rfl (Nat.le_of_ble_eq_true rfl) (Nat.le_of_ble_eq_true rfl) (by refine ⟨by simp only [an_rightWith, an_c, *, Bool.and_true, Bool.and_false, Bool.true_and, Bool.false_and, cond_true, cond_false] <;> rfl, kx_A_i ha ?_⟩; simp only [an_rightWith, an_c, *, Bool.and_true, Bool.and_false, Bool.true_and, Bool.false_and, cond_true, cond_false, kx_up_u, mo_z_z])
      · obtain ⟨k2, hk2, rfl⟩ := mx_ix_t c2
        have nk2 : mx_n (nI k2) = k2 := mx_n_nI (by omega)
        refine ri_iload_n C dX4_rightWith_16 rfl ?_
        refine ri_iconst C dX4_rightWith_17 kc_i0 ?_
        refine ri_bipush C dX4_rightWith_18 kc_b50 ?_
        refine ri_callS C km_X4_inRange q3071 dX4_rightWith_20 (mt_X4_inRange htr) rfl rfl ⟨⟨(Nat.le_of_ble_eq_true rfl), (Nat.le_of_ble_eq_true rfl)⟩, (Nat.le_of_ble_eq_true rfl), (Nat.le_of_ble_eq_true rfl), (Nat.le_of_ble_eq_true rfl)⟩ (fun v20 s20 h20 => ?_) (fun _ _ _ h => h.elim)
        obtain ⟨rfl, rfl⟩ := h20
        rw [mx_ix_0 (by decide), c2]
        first | refine ri_if_neB C 30 dX4_rightWith_23 rfl (fun h23 => ?_) (fun h23 => ?_) | refine ri_if_neN C 30 dX4_rightWith_23 rfl (by omega) (fun h23 => ?_) (fun h23 => ?_) | refine ri_if_ne C 30 dX4_rightWith_23 rfl (fun h23 => ?_) (fun h23 => ?_)
        · refine ri_iconst C dX4_rightWith_30 kc_i0 ?_
          refine ri_iconst C dX4_rightWith_31 kc_i1 ?_
          refine ri_callV C km_X4_fails q3303 qs106 dX4_rightWith_32 (mt_X4_fails htr (b := false) (by first | assumption | (repeat (first | assumption | exact kx_rs (by assumption) | exact kx_ne2 (by omega) | exact kx_ne1 (by omega) | refine kx_ro (by assumption) ?_ ?_ | exact kx_rs rfl | refine kx_ro rfl ?_ ?_)))) rfl rfl (kx_rcN C (by first | assumption | (repeat (first | assumption | exact kx_rs (by assumption) | exact kx_ne2 (by omega) | exact kx_ne1 (by omega) | refine kx_ro (by assumption) ?_ ?_ | exact kx_rs rfl | refine kx_ro rfl ?_ ?_))) rfl) ⟨⟨(Nat.le_of_ble_eq_true rfl), (Nat.le_of_ble_eq_true rfl)⟩, (Nat.le_of_ble_eq_true rfl), (Nat.le_of_ble_eq_true rfl), (Nat.le_of_ble_eq_true rfl)⟩ (fun v32 s32 h32 => ?_) (fun _ _ _ h => h.elim)
          obtain ⟨rfl, e32⟩ := h32
          rw [cond_false] at e32
          subst e32
          first | refine ri_if_eqB C 40 dX4_rightWith_35 rfl (fun h35 => ?_) (fun h35 => ?_) | refine ri_if_eqN C 40 dX4_rightWith_35 rfl (by omega) (fun h35 => ?_) (fun h35 => ?_) | refine ri_if_eq C 40 dX4_rightWith_35 rfl (fun h35 => ?_) (fun h35 => ?_)
          · first | refine ri_aload_n C dX4_rightWith_40 rfl ?_ | refine ri_aload_nQ C dX4_rightWith_40 rfl ?_ | refine ri_aload_nN C dX4_rightWith_40 rfl ?_
            refine ri_callV C km_X4_goesAside q3442 qs123 dX4_rightWith_41 (mt_X4_goesAside htr (by first | assumption | (repeat (first | assumption | exact kx_rs (by assumption) | exact kx_ne2 (by omega) | exact kx_ne1 (by omega) | refine kx_ro (by assumption) ?_ ?_ | exact kx_rs rfl | refine kx_ro rfl ?_ ?_))) (by first | assumption | (repeat (first | assumption | exact kx_rs (by assumption) | exact kx_ne2 (by omega) | exact kx_ne1 (by omega) | refine kx_ro (by assumption) ?_ ?_ | exact kx_rs rfl | refine kx_ro rfl ?_ ?_))) (by first | assumption | (repeat (first | assumption | exact kx_rs (by assumption) | exact kx_ne2 (by omega) | exact kx_ne1 (by omega) | refine kx_ro (by assumption) ?_ ?_ | exact kx_rs rfl | refine kx_ro rfl ?_ ?_)))) rfl rfl (kx_rcN C (by first | assumption | (repeat (first | assumption | exact kx_rs (by assumption) | exact kx_ne2 (by omega) | exact kx_ne1 (by omega) | refine kx_ro (by assumption) ?_ ?_ | exact kx_rs rfl | refine kx_ro rfl ?_ ?_))) rfl) ⟨⟨(Nat.le_of_ble_eq_true rfl), (Nat.le_of_ble_eq_true rfl)⟩, (Nat.le_of_ble_eq_true rfl), (Nat.le_of_ble_eq_true rfl), (Nat.le_of_ble_eq_true rfl)⟩ (fun v41 s41 h41 => ?_) (fun _ _ _ h => h.elim)
            obtain ⟨rfl, e41⟩ := h41
            first | refine ri_aload_n C dX4_rightWith_44 rfl ?_ | refine ri_aload_nQ C dX4_rightWith_44 rfl ?_ | refine ri_aload_nN C dX4_rightWith_44 rfl ?_
            refine ri_getf C dX4_rightWith_45 fr_q2970_3 (by first | assumption | (repeat (first | assumption | exact kx_rs (by assumption) | exact kx_ne2 (by omega) | exact kx_ne1 (by omega) | refine kx_ro (by assumption) ?_ ?_ | exact kx_rs rfl | refine kx_ro rfl ?_ ?_))) (by rfl) ?_
            refine ri_bipush C dX4_rightWith_48 kc_b6 ?_
            refine ri_iload_n C dX4_rightWith_50 rfl ?_
            refine ri_iastore C dX4_rightWith_51 (by first | assumption | (repeat (first | assumption | exact kx_rs (by assumption) | exact kx_ne2 (by omega) | exact kx_ne1 (by omega) | refine kx_ro (by assumption) ?_ ?_ | exact kx_rs rfl | refine kx_ro rfl ?_ ?_))) rfl (by omega) (fun s51 e51 => ?_)
            rw [mx_upd] at e51
            first | refine ri_aload_n C dX4_rightWith_52 rfl ?_ | refine ri_aload_nQ C dX4_rightWith_52 rfl ?_ | refine ri_aload_nN C dX4_rightWith_52 rfl ?_
            refine ri_getf C dX4_rightWith_53 fr_q2970_3 (by first | assumption | (repeat (first | assumption | exact kx_rs (by assumption) | exact kx_ne2 (by omega) | exact kx_ne1 (by omega) | refine kx_ro (by assumption) ?_ ?_ | exact kx_rs rfl | refine kx_ro rfl ?_ ?_))) (by rfl) ?_
            refine ri_bipush C dX4_rightWith_56 kc_b7 ?_
            refine ri_iload_n C dX4_rightWith_58 rfl ?_
            refine ri_iastore C dX4_rightWith_59 (by first | assumption | (repeat (first | assumption | exact kx_rs (by assumption) | exact kx_ne2 (by omega) | exact kx_ne1 (by omega) | refine kx_ro (by assumption) ?_ ?_ | exact kx_rs rfl | refine kx_ro rfl ?_ ?_))) rfl (by omega) (fun s59 e59 => ?_)
            rw [mx_upd] at e59
            have e2d : mx_s (mx_s u 6 k1) 7 k2 2 = u 2 := rfl
            have hro := mx_ok_s67 (x := k1) (y := k2) hu (by omega) (by omega)
            first | refine ri_aload_n C dX4_rightWith_60 rfl ?_ | refine ri_aload_nQ C dX4_rightWith_60 rfl ?_ | refine ri_aload_nN C dX4_rightWith_60 rfl ?_
            first | refine ri_aload_n C dX4_rightWith_61 rfl ?_ | refine ri_aload_nQ C dX4_rightWith_61 rfl ?_ | refine ri_aload_nN C dX4_rightWith_61 rfl ?_
            refine ri_callV C km_X4_again q3462 qs126 dX4_rightWith_62 (mt_X4_again htr (by first | assumption | (repeat (first | assumption | exact kx_rs (by assumption) | exact kx_ne2 (by omega) | exact kx_ne1 (by omega) | refine kx_ro (by assumption) ?_ ?_ | exact kx_rs rfl | refine kx_ro rfl ?_ ?_))) (by first | assumption | (repeat (first | assumption | exact kx_rs (by assumption) | exact kx_ne2 (by omega) | exact kx_ne1 (by omega) | refine kx_ro (by assumption) ?_ ?_ | exact kx_rs rfl | refine kx_ro rfl ?_ ?_))) (by first | assumption | (repeat (first | assumption | exact kx_rs (by assumption) | exact kx_ne2 (by omega) | exact kx_ne1 (by omega) | refine kx_ro (by assumption) ?_ ?_ | exact kx_rs rfl | refine kx_ro rfl ?_ ?_))) hro (wi := wi) (we := we) (by rw [e2d]; exact hg) (mx_le_s (mx_le_s hB (by omega)) (by omega)) (by omega) (by omega)) rfl rfl (kx_rcN C (by first | assumption | (repeat (first | assumption | exact kx_rs (by assumption) | exact kx_ne2 (by omega) | exact kx_ne1 (by omega) | refine kx_ro (by assumption) ?_ ?_ | exact kx_rs rfl | refine kx_ro rfl ?_ ?_))) rfl) ⟨⟨(Nat.le_of_ble_eq_true rfl), (Nat.le_of_ble_eq_true rfl)⟩, (Nat.le_of_ble_eq_true rfl), (Nat.le_of_ble_eq_true rfl), (Nat.le_of_ble_eq_true rfl)⟩ (fun v62 s62 h62 => ?_) (fun _ _ _ h => h.elim)
            obtain ⟨rfl, e62⟩ := h62
            refine ri_callV C km_X4_goesBack q3446 qs124 dX4_rightWith_65 (mt_X4_goesBack htr (q := u) (by first | assumption | (repeat (first | assumption | exact kx_rs (by assumption) | exact kx_ne2 (by omega) | exact kx_ne1 (by omega) | refine kx_ro (by assumption) ?_ ?_ | exact kx_rs rfl | refine kx_ro rfl ?_ ?_))) (by first | assumption | (repeat (first | assumption | exact kx_rs (by assumption) | exact kx_ne2 (by omega) | exact kx_ne1 (by omega) | refine kx_ro (by assumption) ?_ ?_ | exact kx_rs rfl | refine kx_ro rfl ?_ ?_))) (by first | assumption | (repeat (first | assumption | exact kx_rs (by assumption) | exact kx_ne2 (by omega) | exact kx_ne1 (by omega) | refine kx_ro (by assumption) ?_ ?_ | exact kx_rs rfl | refine kx_ro rfl ?_ ?_))) (by intro j hj; exact mx_cut_r j hj)) rfl rfl (kx_rcN C (by first | assumption | (repeat (first | assumption | exact kx_rs (by assumption) | exact kx_ne2 (by omega) | exact kx_ne1 (by omega) | refine kx_ro (by assumption) ?_ ?_ | exact kx_rs rfl | refine kx_ro rfl ?_ ?_))) rfl) ⟨⟨(Nat.le_of_ble_eq_true rfl), (Nat.le_of_ble_eq_true rfl)⟩, (Nat.le_of_ble_eq_true rfl), (Nat.le_of_ble_eq_true rfl), (Nat.le_of_ble_eq_true rfl)⟩ (fun v65 s65 h65 => ?_) (fun _ _ _ h => h.elim)
            obtain ⟨rfl, e65⟩ := h65
            exact ri_iret C hQ dX4_rightWith_68 rfl (Nat.le_of_ble_eq_true rfl) (Nat.le_of_ble_eq_true rfl) (by simp only [an_rightWith, an_c, c1, c2, cond_true, nk1, nk2, Bool.and_true]; exact ⟨by first | rfl | trivial, _, by rw [e65, mx_cut_i (fun j hj => ?_), e62, e59, e51, e41, kx_up_u, kx_up_u, kx_up_b (by first | assumption | exact kx_ro e2 hw (by decide)) (by decide), e2]; exact (mx_ag_hi (mx_rw_ok hro _ (Nat.le_refl _)) hj _).trans ((mx_rw_i (Or.inr (by omega)) _ hro.1).trans ((mx_s_o (by omega)).trans (mx_s_o (by omega))))⟩)
          · exact absurd h35 (by decide) --dead
        · exact absurd h23 (by decide) --dead
set_option maxHeartbeats 1000000 in
theorem mt_X4_harmOf {l : Launch} {G : kx_G} (htr : l.stackTraces = false) {σ : kx_H} {mo : Nat} {ad : Nat → Nat} {z : Nat → Int32} {u : Nat → Nat} {x : Int32} (h0 : σ (1, 0) = some (mo, .inr (3, mo_L ad z))) (hw : σ (1, 1) = some (ad 0, kx_ai G 1417 (mx_w u))) {L : Nat → Int32} (hl : σ (1, 6) = some (ad 5, kx_ai G 2160 L)) {A : Nat → Int32} (ha : σ (1, 3) = some (ad 2, kx_ai G 1417 A)) (hu : mx_ok u) {wi we : Nat → Nat} (hg : ∀ d, d < u 2 → L (3 * d) = nI (wi d) ∧ wi d < 16 ∧ L (3 * d + 1) = nI (we d) ∧ we d < 5) {B : Nat} (hB : mx_le B u) (hb0 : 1000 ≤ B) (hb : B < 700000000) (hd : u 2 ≤ 720) : kx_SP l G yX4_harmOf (ws_ yX4_harmOf cX4_harmOf 3 (some .int)) 12 0 0 [.ref mo, .int x] σ (fun v τ => v = some (.int (an_harmOf u wi we x).2) ∧ ∃ A', τ = kx_up (kx_up σ (1, 0) (mo, .inr (3, mo_L ad (mo_z z 9 (nI (an_harmOf u wi we x).1))))) (1, 3) (ad 2, kx_ai G 1417 A')) kx_nx := by
  refine kx_body htr (by decide +kernel) (own := "RoseProverbsModel") (nm := "harmOf") rfl rfl (Nat.le_of_ble_eq_true rfl) ?_
  intro p e s m args below meth c Q C hQ
  have gn := hu.1
  first | refine ri_aload_n C dX4_harmOf_0 rfl ?_ | refine ri_aload_nQ C dX4_harmOf_0 rfl ?_ | refine ri_aload_nN C dX4_harmOf_0 rfl ?_
  refine ri_iconst C dX4_harmOf_1 kc_i0 ?_
  refine ri_putf C dX4_harmOf_2 fd_q2979_3 (fun h => nomatch h) (by first | assumption | (repeat (first | assumption | exact kx_rs (by assumption) | exact kx_ne2 (by omega) | exact kx_ne1 (by omega) | refine kx_ro (by assumption) ?_ ?_ | exact kx_rs rfl | refine kx_ro rfl ?_ ?_))) (Nat.le_of_ble_eq_true rfl) (by rfl) (by rfl) mo_set9 (fun s2 e2 => ?_)
  first | refine ri_aload_n C dX4_harmOf_5 rfl ?_ | refine ri_aload_nQ C dX4_harmOf_5 rfl ?_ | refine ri_aload_nN C dX4_harmOf_5 rfl ?_
  refine ri_iload_n C dX4_harmOf_6 rfl ?_
  refine ri_callV C km_X4_noProverb q3342 qs113 dX4_harmOf_7 (mt_X4_noProverb htr (by first | assumption | (repeat (first | assumption | exact kx_rs (by assumption) | exact kx_ne2 (by omega) | exact kx_ne1 (by omega) | refine kx_ro (by assumption) ?_ ?_ | exact kx_rs rfl | refine kx_ro rfl ?_ ?_))) (by first | assumption | (repeat (first | assumption | exact kx_rs (by assumption) | exact kx_ne2 (by omega) | exact kx_ne1 (by omega) | refine kx_ro (by assumption) ?_ ?_ | exact kx_rs rfl | refine kx_ro rfl ?_ ?_))) (by omega)) rfl rfl (kx_rcN C (by first | assumption | (repeat (first | assumption | exact kx_rs (by assumption) | exact kx_ne2 (by omega) | exact kx_ne1 (by omega) | refine kx_ro (by assumption) ?_ ?_ | exact kx_rs rfl | refine kx_ro rfl ?_ ?_))) rfl) ⟨⟨(Nat.le_of_ble_eq_true rfl), (Nat.le_of_ble_eq_true rfl)⟩, (Nat.le_of_ble_eq_true rfl), (Nat.le_of_ble_eq_true rfl), (Nat.le_of_ble_eq_true rfl)⟩ (fun v7 s7 h7 => ?_) (fun _ _ _ h => h.elim)
  obtain ⟨rfl, e7⟩ := h7
  first | refine ri_if_eqB C 15 dX4_harmOf_10 rfl (fun h10 => ?_) (fun h10 => ?_) | refine ri_if_eqN C 15 dX4_harmOf_10 rfl (by omega) (fun h10 => ?_) (fun h10 => ?_) | refine ri_if_eq C 15 dX4_harmOf_10 rfl (fun h10 => ?_) (fun h10 => ?_)
  · have c1 : mx_ix x (u 0) = true := kx_bn_f h10
    rw [c1, cond_true] at e7
    subst e7
    obtain ⟨k1, hk1, rfl⟩ := mx_ix_t c1
    have nk1 : mx_n (nI k1) = k1 := mx_n_nI (by omega)
    first | refine ri_aload_n C dX4_harmOf_15 rfl ?_ | refine ri_aload_nQ C dX4_harmOf_15 rfl ?_ | refine ri_aload_nN C dX4_harmOf_15 rfl ?_
    refine ri_iconst C dX4_harmOf_16 kc_i5 ?_
    first | refine ri_aload_n C dX4_harmOf_17 rfl ?_ | refine ri_aload_nQ C dX4_harmOf_17 rfl ?_ | refine ri_aload_nN C dX4_harmOf_17 rfl ?_
    refine ri_getf C dX4_harmOf_18 fr_q2970_3 (by first | assumption | (repeat (first | assumption | exact kx_rs (by assumption) | exact kx_ne2 (by omega) | exact kx_ne1 (by omega) | refine kx_ro (by assumption) ?_ ?_ | exact kx_rs rfl | refine kx_ro rfl ?_ ?_))) (by rfl) ?_
    refine ri_iconst C dX4_harmOf_21 kc_i5 ?_
    first | refine ri_ialoadN C dX4_harmOf_22 (by first | assumption | (repeat (first | assumption | exact kx_rs (by assumption) | exact kx_ne2 (by omega) | exact kx_ne1 (by omega) | refine kx_ro (by assumption) ?_ ?_ | exact kx_rs rfl | refine kx_ro rfl ?_ ?_))) rfl (by omega) ?_ | refine ri_iaload C dX4_harmOf_22 (by first | assumption | (repeat (first | assumption | exact kx_rs (by assumption) | exact kx_ne2 (by omega) | exact kx_ne1 (by omega) | refine kx_ro (by assumption) ?_ ?_ | exact kx_rs rfl | refine kx_ro rfl ?_ ?_))) rfl (by omega) ?_
    refine ri_callV C km_X4_rightWhen q3458 qs125 dX4_harmOf_23 (mt_X4_rightWhen htr (by first | assumption | (repeat (first | assumption | exact kx_rs (by assumption) | exact kx_ne2 (by omega) | exact kx_ne1 (by omega) | refine kx_ro (by assumption) ?_ ?_ | exact kx_rs rfl | refine kx_ro rfl ?_ ?_))) (by first | assumption | (repeat (first | assumption | exact kx_rs (by assumption) | exact kx_ne2 (by omega) | exact kx_ne1 (by omega) | refine kx_ro (by assumption) ?_ ?_ | exact kx_rs rfl | refine kx_ro rfl ?_ ?_))) (by first | assumption | (repeat (first | assumption | exact kx_rs (by assumption) | exact kx_ne2 (by omega) | exact kx_ne1 (by omega) | refine kx_ro (by assumption) ?_ ?_ | exact kx_rs rfl | refine kx_ro rfl ?_ ?_))) (by first | assumption | (repeat (first | assumption | exact kx_rs (by assumption) | exact kx_ne2 (by omega) | exact kx_ne1 (by omega) | refine kx_ro (by assumption) ?_ ?_ | exact kx_rs rfl | refine kx_ro rfl ?_ ?_))) (by omega) (by omega) (by rw [mx_s_id]; exact hu) hg (by rw [mx_s_id]; exact hB) hb hd) rfl rfl (kx_rcN C (by first | assumption | (repeat (first | assumption | exact kx_rs (by assumption) | exact kx_ne2 (by omega) | exact kx_ne1 (by omega) | refine kx_ro (by assumption) ?_ ?_ | exact kx_rs rfl | refine kx_ro rfl ?_ ?_))) rfl) ⟨⟨(Nat.le_of_ble_eq_true rfl), (Nat.le_of_ble_eq_true rfl)⟩, (Nat.le_of_ble_eq_true rfl), (Nat.le_of_ble_eq_true rfl), (Nat.le_of_ble_eq_true rfl)⟩ (fun v23 s23 h23 => ?_) (fun _ _ _ h => h.elim)
    obtain ⟨rfl, A1, e23⟩ := h23
    refine ri_istore_n C dX4_harmOf_26 rfl (by decide) ?_
    first | refine ri_aload_n C dX4_harmOf_27 rfl ?_ | refine ri_aload_nQ C dX4_harmOf_27 rfl ?_ | refine ri_aload_nN C dX4_harmOf_27 rfl ?_
    refine ri_bipush C dX4_harmOf_28 kc_b25 ?_
    refine ri_bipush C dX4_harmOf_30 kc_b10 ?_
    refine ri_iload_n C dX4_harmOf_32 rfl ?_
    first | refine ri_imulN C dX4_harmOf_33 ?_ | refine ri_imul C dX4_harmOf_33 ?_
    first | refine ri_iaddN C dX4_harmOf_34 ?_ | refine ri_iadd C dX4_harmOf_34 ?_
    refine ri_bipush C dX4_harmOf_35 kc_b9 ?_
    first | refine ri_iaddN C dX4_harmOf_37 ?_ | refine ri_iadd C dX4_harmOf_37 ?_
    refine ri_iconst C dX4_harmOf_38 kc_i1 ?_
    refine ri_callV C km_X4_rightWhen q3458 qs125 dX4_harmOf_39 (mt_X4_rightWhen htr (by first | assumption | (repeat (first | assumption | exact kx_rs (by assumption) | exact kx_ne2 (by omega) | exact kx_ne1 (by omega) | refine kx_ro (by assumption) ?_ ?_ | exact kx_rs rfl | refine kx_ro rfl ?_ ?_))) (by first | assumption | (repeat (first | assumption | exact kx_rs (by assumption) | exact kx_ne2 (by omega) | exact kx_ne1 (by omega) | refine kx_ro (by assumption) ?_ ?_ | exact kx_rs rfl | refine kx_ro rfl ?_ ?_))) (by first | assumption | (repeat (first | assumption | exact kx_rs (by assumption) | exact kx_ne2 (by omega) | exact kx_ne1 (by omega) | refine kx_ro (by assumption) ?_ ?_ | exact kx_rs rfl | refine kx_ro rfl ?_ ?_))) (by first | assumption | (repeat (first | assumption | exact kx_rs (by assumption) | exact kx_ne2 (by omega) | exact kx_ne1 (by omega) | refine kx_ro (by assumption) ?_ ?_ | exact kx_rs rfl | refine kx_ro rfl ?_ ?_))) (by omega) (by omega) (mx_ok_p9 hu) hg (mx_le_s hB (by omega)) hb hd) rfl rfl (kx_rcN C (by first | assumption | (repeat (first | assumption | exact kx_rs (by assumption) | exact kx_ne2 (by omega) | exact kx_ne1 (by omega) | refine kx_ro (by assumption) ?_ ?_ | exact kx_rs rfl | refine kx_ro rfl ?_ ?_))) rfl) ⟨⟨(Nat.le_of_ble_eq_true rfl), (Nat.le_of_ble_eq_true rfl)⟩, (Nat.le_of_ble_eq_true rfl), (Nat.le_of_ble_eq_true rfl), (Nat.le_of_ble_eq_true rfl)⟩ (fun v39 s39 h39 => ?_) (fun _ _ _ h => h.elim)
    obtain ⟨rfl, A2, e39⟩ := h39
    refine ri_iload_n C dX4_harmOf_42 rfl ?_
    refine ri_isub C dX4_harmOf_43 ?_
    exact ri_iret C hQ dX4_harmOf_44 rfl (Nat.le_of_ble_eq_true rfl) (Nat.le_of_ble_eq_true rfl) (by simp only [an_harmOf, an_c, c1, cond_true, nk1]; exact ⟨by rw [mx_s_id] <;> rfl, A2, by rw [e39, e23, e2, kx_up_u]⟩)
  · have c1 : mx_ix x (u 0) = false := kx_bn_t h10
    rw [c1, cond_false] at e7
    refine ri_iconst C dX4_harmOf_13 kc_i0 ?_
    exact ri_iret C hQ dX4_harmOf_14 rfl (Nat.le_of_ble_eq_true rfl) (Nat.le_of_ble_eq_true rfl) (by refine ⟨by simp only [an_harmOf, an_c, *, Bool.and_true, Bool.and_false, Bool.true_and, Bool.false_and, cond_true, cond_false] <;> rfl, kx_A_i ha ?_⟩; simp only [an_harmOf, an_c, *, Bool.and_true, Bool.and_false, Bool.true_and, Bool.false_and, cond_true, cond_false, kx_up_u, mo_z_z])
set_option maxHeartbeats 1000000 in
theorem mt_X4_bestRule {l : Launch} {G : kx_G} (htr : l.stackTraces = false) {σ : kx_H} {mo : Nat} {ad : Nat → Nat} {z : Nat → Int32} {u : Nat → Nat} (h0 : σ (1, 0) = some (mo, .inr (3, mo_L ad z))) (hw : σ (1, 1) = some (ad 0, kx_ai G 1417 (mx_w u))) {L : Nat → Int32} (hl : σ (1, 6) = some (ad 5, kx_ai G 2160 L)) {A : Nat → Int32} (ha : σ (1, 3) = some (ad 2, kx_ai G 1417 A)) (hu : mx_ok u) {wi we : Nat → Nat} (hg : ∀ d, d < u 2 → L (3 * d) = nI (wi d) ∧ wi d < 16 ∧ L (3 * d + 1) = nI (we d) ∧ we d < 5) {B : Nat} (hB : mx_le B u) (hb0 : 1000 ≤ B) (hb : B < 700000000) (hd : u 2 ≤ 720) : kx_SP l G yX4_bestRule (ws_ yX4_bestRule cX4_bestRule 5 (some .int)) 12 0 0 [.ref mo] σ (fun v τ => v = some (.int (nI (an_bestRule u wi we))) ∧ ∃ A', τ = kx_up (kx_up σ (1, 0) (mo, .inr (3, mo_L ad (mo_z z 9 (nI ((0, nI (an_bestRule u wi we))).1))))) (1, 3) (ad 2, kx_ai G 1417 A')) kx_nx := by
  refine kx_body htr (by decide +kernel) (own := "RoseProverbsModel") (nm := "bestRule") rfl rfl (Nat.le_of_ble_eq_true rfl) ?_
  intro p e s m args below meth c Q C hQ
  have hle : ∀ v, mx_rt wi we v ≤ v 2 := fun v => mx_cnt_le
  first | refine ri_aload_n C dX4_bestRule_0 rfl ?_ | refine ri_aload_nQ C dX4_bestRule_0 rfl ?_ | refine ri_aload_nN C dX4_bestRule_0 rfl ?_
  refine ri_iconst C dX4_bestRule_1 kc_i0 ?_
  refine ri_putf C dX4_bestRule_2 fd_q2979_3 (fun h => nomatch h) (by first | assumption | (repeat (first | assumption | exact kx_rs (by assumption) | exact kx_ne2 (by omega) | exact kx_ne1 (by omega) | refine kx_ro (by assumption) ?_ ?_ | exact kx_rs rfl | refine kx_ro rfl ?_ ?_))) (Nat.le_of_ble_eq_true rfl) (by rfl) (by rfl) mo_set9 (fun s2 e2 => ?_)
  refine ri_iconst C dX4_bestRule_5 kc_i0 ?_
  refine ri_istore_n C dX4_bestRule_6 rfl (by decide) ?_
  first | refine ri_aload_n C dX4_bestRule_7 rfl ?_ | refine ri_aload_nQ C dX4_bestRule_7 rfl ?_ | refine ri_aload_nN C dX4_bestRule_7 rfl ?_
  refine ri_iconst C dX4_bestRule_8 kc_i5 ?_
  refine ri_iconst C dX4_bestRule_9 kc_i0 ?_
  refine ri_callV C km_X4_rightWhen q3458 qs125 dX4_bestRule_10 (mt_X4_rightWhen htr (by first | assumption | (repeat (first | assumption | exact kx_rs (by assumption) | exact kx_ne2 (by omega) | exact kx_ne1 (by omega) | refine kx_ro (by assumption) ?_ ?_ | exact kx_rs rfl | refine kx_ro rfl ?_ ?_))) (by first | assumption | (repeat (first | assumption | exact kx_rs (by assumption) | exact kx_ne2 (by omega) | exact kx_ne1 (by omega) | refine kx_ro (by assumption) ?_ ?_ | exact kx_rs rfl | refine kx_ro rfl ?_ ?_))) (by first | assumption | (repeat (first | assumption | exact kx_rs (by assumption) | exact kx_ne2 (by omega) | exact kx_ne1 (by omega) | refine kx_ro (by assumption) ?_ ?_ | exact kx_rs rfl | refine kx_ro rfl ?_ ?_))) (by first | assumption | (repeat (first | assumption | exact kx_rs (by assumption) | exact kx_ne2 (by omega) | exact kx_ne1 (by omega) | refine kx_ro (by assumption) ?_ ?_ | exact kx_rs rfl | refine kx_ro rfl ?_ ?_))) (by omega) (by omega) (mx_ok_s5 hu (by omega)) hg (mx_le_s hB (by omega)) hb hd) rfl rfl (kx_rcN C (by first | assumption | (repeat (first | assumption | exact kx_rs (by assumption) | exact kx_ne2 (by omega) | exact kx_ne1 (by omega) | refine kx_ro (by assumption) ?_ ?_ | exact kx_rs rfl | refine kx_ro rfl ?_ ?_))) rfl) ⟨⟨(Nat.le_of_ble_eq_true rfl), (Nat.le_of_ble_eq_true rfl)⟩, (Nat.le_of_ble_eq_true rfl), (Nat.le_of_ble_eq_true rfl), (Nat.le_of_ble_eq_true rfl)⟩ (fun v10 s10 h10 => ?_) (fun _ _ _ h => h.elim)
  obtain ⟨rfl, A1, e10⟩ := h10
  refine ri_istore_n C dX4_bestRule_13 rfl (by decide) ?_
  refine ri_iconst C dX4_bestRule_14 kc_i1 ?_
  refine ri_istore_n C dX4_bestRule_15 rfl (by decide) ?_
  have LP : ∀ (wk i : Nat) (x1 x2 : Nat) (τ : kx_H), i ≤ 3 → 3 < i + wk → ((x1 = (mx_br (fun r => mx_rt wi we (mx_s u 5 r)) (i - 1)).1 ∧ x2 = (mx_br (fun r => mx_rt wi we (mx_s u 5 r)) (i - 1)).2 ∧ (∃ A', τ = kx_up (kx_up σ (1, 0) (mo, .inr (3, mo_L ad (mo_z z 9 (nI 0))))) (1, 3) (ad 2, kx_ai G 1417 A'))) ∧ 1 ≤ i ∧ x2 ≤ 720) → kx_V G l p e (kx_rm 12 0 0) s m args below meth c 5 Q 16 [(0, .ref mo), (1, .int (nI x1)), (2, .int (nI x2)), (3, .int (nI i))] [] τ 0 0 := by
    intro wk
    induction wk with
    | zero => intro i x1 x2 τ h1 h2; exact absurd h2 (by omega)
    | succ wk ih =>
      intro i x1 x2 τ hi hwk hJ
      obtain ⟨hJ, i1, x27⟩ := hJ
      have hI := hJ
      obtain ⟨j1, j2, A, eA⟩ := hJ
      have h0' := kx_ro eA (kx_rs rfl) (by decide)
      have hw' := kx_ro eA (kx_ro rfl hw (by decide)) (by decide)
      have hl' := kx_ro eA (kx_ro rfl hl (by decide)) (by decide)
      have ha' := kx_rs eA
      refine ri_iload_n C dX4_bestRule_16 rfl ?_
      refine ri_iconst C dX4_bestRule_17 kc_i2 ?_
      first | refine ri_icmp_gtN C 50 dX4_bestRule_18 rfl (by omega) (by omega) (fun h18 => ?_) (fun h18 => ?_) | refine ri_icmp_gt C 50 dX4_bestRule_18 rfl (fun h18 => ?_) (fun h18 => ?_)
      · refine ri_iload_n C dX4_bestRule_50 rfl ?_
        exact ri_iret C hQ dX4_bestRule_51 rfl (Nat.le_of_ble_eq_true rfl) (Nat.le_of_ble_eq_true rfl) ⟨by rw [hI.1, show i = 3 by omega]; rfl, hI.2.2⟩
      · first | refine ri_aload_n C dX4_bestRule_21 rfl ?_ | refine ri_aload_nQ C dX4_bestRule_21 rfl ?_ | refine ri_aload_nN C dX4_bestRule_21 rfl ?_
        refine ri_iconst C dX4_bestRule_22 kc_i5 ?_
        refine ri_iload_n C dX4_bestRule_23 rfl ?_
        refine ri_callV C km_X4_rightWhen q3458 qs125 dX4_bestRule_24 (mt_X4_rightWhen htr (by first | assumption | (repeat (first | assumption | exact kx_rs (by assumption) | exact kx_ne2 (by omega) | exact kx_ne1 (by omega) | refine kx_ro (by assumption) ?_ ?_ | exact kx_rs rfl | refine kx_ro rfl ?_ ?_))) (by first | assumption | (repeat (first | assumption | exact kx_rs (by assumption) | exact kx_ne2 (by omega) | exact kx_ne1 (by omega) | refine kx_ro (by assumption) ?_ ?_ | exact kx_rs rfl | refine kx_ro rfl ?_ ?_))) (by first | assumption | (repeat (first | assumption | exact kx_rs (by assumption) | exact kx_ne2 (by omega) | exact kx_ne1 (by omega) | refine kx_ro (by assumption) ?_ ?_ | exact kx_rs rfl | refine kx_ro rfl ?_ ?_))) (by first | assumption | (repeat (first | assumption | exact kx_rs (by assumption) | exact kx_ne2 (by omega) | exact kx_ne1 (by omega) | refine kx_ro (by assumption) ?_ ?_ | exact kx_rs rfl | refine kx_ro rfl ?_ ?_))) (by omega) (by omega) (mx_ok_s5 hu (by omega)) hg (mx_le_s hB (by omega)) hb hd) rfl rfl (kx_rcN C (by first | assumption | (repeat (first | assumption | exact kx_rs (by assumption) | exact kx_ne2 (by omega) | exact kx_ne1 (by omega) | refine kx_ro (by assumption) ?_ ?_ | exact kx_rs rfl | refine kx_ro rfl ?_ ?_))) rfl) ⟨⟨(Nat.le_of_ble_eq_true rfl), (Nat.le_of_ble_eq_true rfl)⟩, (Nat.le_of_ble_eq_true rfl), (Nat.le_of_ble_eq_true rfl), (Nat.le_of_ble_eq_true rfl)⟩ (fun v24 s24 h24 => ?_) (fun _ _ _ h => h.elim)
        obtain ⟨rfl, A1, e24⟩ := h24
        have hl2 := hle (mx_s u 5 i)
        have hl3 : mx_s u 5 i 2 = u 2 := rfl
        refine ri_istore C dX4_bestRule_27 rfl (by decide) ?_
        refine ri_iload C dX4_bestRule_29 rfl ?_
        refine ri_iload_n C dX4_bestRule_31 rfl ?_
        first | refine ri_icmp_leN C 37 dX4_bestRule_32 rfl (by omega) (by omega) (fun h32 => ?_) (fun h32 => ?_) | refine ri_icmp_le C 37 dX4_bestRule_32 rfl (fun h32 => ?_) (fun h32 => ?_)
        · refine ri_iload_n C dX4_bestRule_37 rfl ?_
          refine ri_iload C dX4_bestRule_38 rfl ?_
          refine ri_callS C km_J12_max q3242 dX4_bestRule_40 (mt_J12_max htr (by omega) (by omega)) rfl rfl ⟨⟨(Nat.le_of_ble_eq_true rfl), (Nat.le_of_ble_eq_true rfl)⟩, (Nat.le_of_ble_eq_true rfl), (Nat.le_of_ble_eq_true rfl), (Nat.le_of_ble_eq_true rfl)⟩ (fun v40 s40 h40 => ?_) (fun _ _ _ h => h.elim)
          obtain ⟨rfl, rfl⟩ := h40
          refine ri_istore_n C dX4_bestRule_43 rfl (by decide) ?_
          first | refine ri_iincN C dX4_bestRule_44 rfl rfl (by decide) ?_ | refine ri_iinc C dX4_bestRule_44 rfl rfl rfl (by decide) ?_
          refine ri_goto C 16 dX4_bestRule_47 rfl ?_
          obtain ⟨q, rfl⟩ : ∃ q, i = q + 1 := ⟨i - 1, by omega⟩
          simp only [Nat.add_sub_cancel] at j1 j2
          refine ri_lv2 (ih (q + 1 + 1) _ _ _ (by omega) (by omega) ⟨⟨?_, ?_, A1, by rw [e24, eA, kx_up_u]⟩, by omega, ?_⟩) ⟨rfl, rfl, rfl, rfl, trivial⟩
          · simp only [Nat.add_sub_cancel, mx_br]
            first | rw [if_pos (by rw [← j2]; omega)] | (rw [if_neg (by rw [← j2]; omega)]; exact j1)
          · simp only [Nat.add_sub_cancel, mx_br]; rw [← j2]
          · rw [mx_mx]; split <;> omega
        · refine ri_iload_n C dX4_bestRule_35 rfl ?_
          refine ri_istore_n C dX4_bestRule_36 rfl (by decide) ?_
          refine ri_iload_n C dX4_bestRule_37 rfl ?_
          refine ri_iload C dX4_bestRule_38 rfl ?_
          refine ri_callS C km_J12_max q3242 dX4_bestRule_40 (mt_J12_max htr (by omega) (by omega)) rfl rfl ⟨⟨(Nat.le_of_ble_eq_true rfl), (Nat.le_of_ble_eq_true rfl)⟩, (Nat.le_of_ble_eq_true rfl), (Nat.le_of_ble_eq_true rfl), (Nat.le_of_ble_eq_true rfl)⟩ (fun v40 s40 h40 => ?_) (fun _ _ _ h => h.elim)
          obtain ⟨rfl, rfl⟩ := h40
          refine ri_istore_n C dX4_bestRule_43 rfl (by decide) ?_
          first | refine ri_iincN C dX4_bestRule_44 rfl rfl (by decide) ?_ | refine ri_iinc C dX4_bestRule_44 rfl rfl rfl (by decide) ?_
          refine ri_goto C 16 dX4_bestRule_47 rfl ?_
          obtain ⟨q, rfl⟩ : ∃ q, i = q + 1 := ⟨i - 1, by omega⟩
          simp only [Nat.add_sub_cancel] at j1 j2
          refine ri_lv2 (ih (q + 1 + 1) _ _ _ (by omega) (by omega) ⟨⟨?_, ?_, A1, by rw [e24, eA, kx_up_u]⟩, by omega, ?_⟩) ⟨rfl, rfl, rfl, rfl, trivial⟩
          · simp only [Nat.add_sub_cancel, mx_br]
            first | rw [if_pos (by rw [← j2]; omega)] | (rw [if_neg (by rw [← j2]; omega)]; exact j1)
          · simp only [Nat.add_sub_cancel, mx_br]; rw [← j2]
          · rw [mx_mx]; split <;> omega
  refine ri_lv2 (LP 4 1 _ _ _ (by omega) (by omega) ⟨⟨rfl, rfl, A1, by rw [e10, e2]⟩, by omega, ?_⟩) ⟨rfl, rfl, rfl, rfl, trivial⟩
  have := hle (mx_s u 5 0)
  have h3 : mx_s u 5 0 2 = u 2 := rfl
  show mx_rt wi we (mx_s u 5 0) ≤ 720
  omega
set_option maxHeartbeats 1000000 in
theorem mt_X4_turnsIn {l : Launch} {G : kx_G} (htr : l.stackTraces = false) {σ : kx_H} {mo : Nat} {ad : Nat → Nat} {z : Nat → Int32} {u : Nat → Nat} {x y : Int32} (h0 : σ (1, 0) = some (mo, .inr (3, mo_L ad z))) (hw : σ (1, 1) = some (ad 0, kx_ai G 1417 (mx_w u))) {A : Nat → Int32} (ha : σ (1, 3) = some (ad 2, kx_ai G 1417 A)) (hu : mx_ok u) {B : Nat} (hB : mx_le B u) (hb : B < 700000000) (hd : u 2 ≤ 720) : kx_SP l G yX4_turnsIn (ws_ yX4_turnsIn cX4_turnsIn 5 (some .int)) 12 0 0 [.ref mo, .int x, .int y] σ (fun v τ => v = some (.int (an_turnsIn u x y).2) ∧ ∃ A', τ = kx_up (kx_up σ (1, 0) (mo, .inr (3, mo_L ad (mo_z z 9 (nI (an_turnsIn u x y).1))))) (1, 3) (ad 2, kx_ai G 1417 A')) kx_nx := by
  refine kx_body htr (by decide +kernel) (own := "RoseProverbsModel") (nm := "turnsIn") rfl rfl (Nat.le_of_ble_eq_true rfl) ?_
  intro p e s m args below meth c Q C hQ
  have gn := hu.1
  first | refine ri_aload_n C dX4_turnsIn_0 rfl ?_ | refine ri_aload_nQ C dX4_turnsIn_0 rfl ?_ | refine ri_aload_nN C dX4_turnsIn_0 rfl ?_
  refine ri_iconst C dX4_turnsIn_1 kc_i0 ?_
  refine ri_putf C dX4_turnsIn_2 fd_q2979_3 (fun h => nomatch h) (by first | assumption | (repeat (first | assumption | exact kx_rs (by assumption) | exact kx_ne2 (by omega) | exact kx_ne1 (by omega) | refine kx_ro (by assumption) ?_ ?_ | exact kx_rs rfl | refine kx_ro rfl ?_ ?_))) (Nat.le_of_ble_eq_true rfl) (by rfl) (by rfl) mo_set9 (fun s2 e2 => ?_)
  first | refine ri_aload_n C dX4_turnsIn_5 rfl ?_ | refine ri_aload_nQ C dX4_turnsIn_5 rfl ?_ | refine ri_aload_nN C dX4_turnsIn_5 rfl ?_
  refine ri_iload_n C dX4_turnsIn_6 rfl ?_
  refine ri_callV C km_X4_noPoint q3354 qs115 dX4_turnsIn_7 (mt_X4_noPoint htr (by first | assumption | (repeat (first | assumption | exact kx_rs (by assumption) | exact kx_ne2 (by omega) | exact kx_ne1 (by omega) | refine kx_ro (by assumption) ?_ ?_ | exact kx_rs rfl | refine kx_ro rfl ?_ ?_)))) rfl rfl (kx_rcN C (by first | assumption | (repeat (first | assumption | exact kx_rs (by assumption) | exact kx_ne2 (by omega) | exact kx_ne1 (by omega) | refine kx_ro (by assumption) ?_ ?_ | exact kx_rs rfl | refine kx_ro rfl ?_ ?_))) rfl) ⟨⟨(Nat.le_of_ble_eq_true rfl), (Nat.le_of_ble_eq_true rfl)⟩, (Nat.le_of_ble_eq_true rfl), (Nat.le_of_ble_eq_true rfl), (Nat.le_of_ble_eq_true rfl)⟩ (fun v7 s7 h7 => ?_) (fun _ _ _ h => h.elim)
  obtain ⟨rfl, e7⟩ := h7
  first | refine ri_if_neB C 21 dX4_turnsIn_10 rfl (fun h10 => ?_) (fun h10 => ?_) | refine ri_if_neN C 21 dX4_turnsIn_10 rfl (by omega) (fun h10 => ?_) (fun h10 => ?_) | refine ri_if_ne C 21 dX4_turnsIn_10 rfl (fun h10 => ?_) (fun h10 => ?_)
  · have c1 : mx_ix x 16 = false := kx_bn_t h10
    rw [c1, cond_false] at e7
    refine ri_iconst C dX4_turnsIn_21 kc_i0 ?_
    exact ri_iret C hQ dX4_turnsIn_22 rfl (Nat.le_of_ble_eq_true rfl) (Nat.le_of_ble_eq_true rfl) (by refine ⟨by simp only [an_turnsIn, an_c, *, Bool.and_true, Bool.and_false, Bool.true_and, Bool.false_and, cond_true, cond_false] <;> rfl, kx_A_i ha ?_⟩; simp only [an_turnsIn, an_c, *, Bool.and_true, Bool.and_false, Bool.true_and, Bool.false_and, cond_true, cond_false, kx_up_u, mo_z_z])
  · have c1 : mx_ix x 16 = true := kx_bn_f h10
    rw [c1, cond_true] at e7
    subst e7
    obtain ⟨k1, hk1, rfl⟩ := mx_ix_t c1
    have nk1 : mx_n (nI k1) = k1 := mx_n_nI (by omega)
    first | refine ri_aload_n C dX4_turnsIn_13 rfl ?_ | refine ri_aload_nQ C dX4_turnsIn_13 rfl ?_ | refine ri_aload_nN C dX4_turnsIn_13 rfl ?_
    refine ri_iload_n C dX4_turnsIn_14 rfl ?_
    refine ri_callV C km_X4_noWeather q3370 qs116 dX4_turnsIn_15 (mt_X4_noWeather htr (by first | assumption | (repeat (first | assumption | exact kx_rs (by assumption) | exact kx_ne2 (by omega) | exact kx_ne1 (by omega) | refine kx_ro (by assumption) ?_ ?_ | exact kx_rs rfl | refine kx_ro rfl ?_ ?_)))) rfl rfl (kx_rcN C (by first | assumption | (repeat (first | assumption | exact kx_rs (by assumption) | exact kx_ne2 (by omega) | exact kx_ne1 (by omega) | refine kx_ro (by assumption) ?_ ?_ | exact kx_rs rfl | refine kx_ro rfl ?_ ?_))) rfl) ⟨⟨(Nat.le_of_ble_eq_true rfl), (Nat.le_of_ble_eq_true rfl)⟩, (Nat.le_of_ble_eq_true rfl), (Nat.le_of_ble_eq_true rfl), (Nat.le_of_ble_eq_true rfl)⟩ (fun v15 s15 h15 => ?_) (fun _ _ _ h => h.elim)
    obtain ⟨rfl, e15⟩ := h15
    first | refine ri_if_eqB C 23 dX4_turnsIn_18 rfl (fun h18 => ?_) (fun h18 => ?_) | refine ri_if_eqN C 23 dX4_turnsIn_18 rfl (by omega) (fun h18 => ?_) (fun h18 => ?_) | refine ri_if_eq C 23 dX4_turnsIn_18 rfl (fun h18 => ?_) (fun h18 => ?_)
    · have c2 : mx_ix y 5 = true := kx_bn_f h18
      rw [c2, cond_true] at e15
      subst e15
      obtain ⟨k2, hk2, rfl⟩ := mx_ix_t c2
      have nk2 : mx_n (nI k2) = k2 := mx_n_nI (by omega)
      first | refine ri_aload_n C dX4_turnsIn_23 rfl ?_ | refine ri_aload_nQ C dX4_turnsIn_23 rfl ?_ | refine ri_aload_nN C dX4_turnsIn_23 rfl ?_
      refine ri_callV C km_X4_goesAside q3442 qs123 dX4_turnsIn_24 (mt_X4_goesAside htr (by first | assumption | (repeat (first | assumption | exact kx_rs (by assumption) | exact kx_ne2 (by omega) | exact kx_ne1 (by omega) | refine kx_ro (by assumption) ?_ ?_ | exact kx_rs rfl | refine kx_ro rfl ?_ ?_))) (by first | assumption | (repeat (first | assumption | exact kx_rs (by assumption) | exact kx_ne2 (by omega) | exact kx_ne1 (by omega) | refine kx_ro (by assumption) ?_ ?_ | exact kx_rs rfl | refine kx_ro rfl ?_ ?_))) (by first | assumption | (repeat (first | assumption | exact kx_rs (by assumption) | exact kx_ne2 (by omega) | exact kx_ne1 (by omega) | refine kx_ro (by assumption) ?_ ?_ | exact kx_rs rfl | refine kx_ro rfl ?_ ?_)))) rfl rfl (kx_rcN C (by first | assumption | (repeat (first | assumption | exact kx_rs (by assumption) | exact kx_ne2 (by omega) | exact kx_ne1 (by omega) | refine kx_ro (by assumption) ?_ ?_ | exact kx_rs rfl | refine kx_ro rfl ?_ ?_))) rfl) ⟨⟨(Nat.le_of_ble_eq_true rfl), (Nat.le_of_ble_eq_true rfl)⟩, (Nat.le_of_ble_eq_true rfl), (Nat.le_of_ble_eq_true rfl), (Nat.le_of_ble_eq_true rfl)⟩ (fun v24 s24 h24 => ?_) (fun _ _ _ h => h.elim)
      obtain ⟨rfl, e24⟩ := h24
      refine ri_iconst C dX4_turnsIn_27 kc_i0 ?_
      refine ri_istore_n C dX4_turnsIn_28 rfl (by decide) ?_
      have LP : ∀ (wk i : Nat) (τ : kx_H), i ≤ 99 → 99 < i + wk → (τ = kx_up s24 (1, 1) (ad 0, kx_ai G 1417 (mx_w (mx_lv k1 k2 u i))) ∧ mx_fst (mx_tg u k1 k2) i = none) → kx_V G l p e (kx_rm 12 0 0) s m args below meth c 5 Q 29 [(0, .ref mo), (1, .int (nI k1)), (2, .int (nI k2)), (3, .int (nI i))] [] τ 0 0 := by
        intro wk
        induction wk with
        | zero => intro i τ h1 h2; exact absurd h2 (by omega)
        | succ wk ih =>
          intro i τ hi hwk hJ
          obtain ⟨hI, hN⟩ := hJ
          have hv := mx_lv_f (wi := k1) (we := k2) hu hB i
          generalize qv : mx_lv k1 k2 u i = v at *
          obtain ⟨o1, o2, o3, o4, o5⟩ := hv
          have b0 := kx_ro hI (kx_ro e24 (kx_rs e2) (by decide)) (by decide)
          have bw := kx_rs hI
          have ba := kx_ro hI (kx_rs e24) (by decide)
          refine ri_iload_n C dX4_turnsIn_29 rfl ?_
          refine ri_bipush C dX4_turnsIn_30 kc_b99 ?_
          first | refine ri_icmp_geN C 68 dX4_turnsIn_32 rfl (by omega) (by omega) (fun h32 => ?_) (fun h32 => ?_) | refine ri_icmp_ge C 68 dX4_turnsIn_32 rfl (fun h32 => ?_) (fun h32 => ?_)
          · first | refine ri_aload_n C dX4_turnsIn_68 rfl ?_ | refine ri_aload_nQ C dX4_turnsIn_68 rfl ?_ | refine ri_aload_nN C dX4_turnsIn_68 rfl ?_
            first | refine ri_aload_n C dX4_turnsIn_69 rfl ?_ | refine ri_aload_nQ C dX4_turnsIn_69 rfl ?_ | refine ri_aload_nN C dX4_turnsIn_69 rfl ?_
            refine ri_iload_n C dX4_turnsIn_70 rfl ?_
            first | refine ri_aload_n C dX4_turnsIn_71 rfl ?_ | refine ri_aload_nQ C dX4_turnsIn_71 rfl ?_ | refine ri_aload_nN C dX4_turnsIn_71 rfl ?_
            first | refine ri_aload_n C dX4_turnsIn_72 rfl ?_ | refine ri_aload_nQ C dX4_turnsIn_72 rfl ?_ | refine ri_aload_nN C dX4_turnsIn_72 rfl ?_
            refine ri_getf C dX4_turnsIn_73 fr_q2970_3 (by first | assumption | (repeat (first | assumption | exact kx_rs (by assumption) | exact kx_ne2 (by omega) | exact kx_ne1 (by omega) | refine kx_ro (by assumption) ?_ ?_ | exact kx_rs rfl | refine kx_ro rfl ?_ ?_))) (by rfl) ?_
            refine ri_iconst C dX4_turnsIn_76 kc_i2 ?_
            first | refine ri_ialoadN C dX4_turnsIn_77 (by first | assumption | (repeat (first | assumption | exact kx_rs (by assumption) | exact kx_ne2 (by omega) | exact kx_ne1 (by omega) | refine kx_ro (by assumption) ?_ ?_ | exact kx_rs rfl | refine kx_ro rfl ?_ ?_))) rfl (by omega) ?_ | refine ri_iaload C dX4_turnsIn_77 (by first | assumption | (repeat (first | assumption | exact kx_rs (by assumption) | exact kx_ne2 (by omega) | exact kx_ne1 (by omega) | refine kx_ro (by assumption) ?_ ?_ | exact kx_rs rfl | refine kx_ro rfl ?_ ?_))) rfl (by omega) ?_
            refine ri_callV C km_X4_monthOf q3205 qs88 dX4_turnsIn_78 (mt_X4_monthOf htr (by omega)) rfl rfl (kx_rcN C (by first | assumption | (repeat (first | assumption | exact kx_rs (by assumption) | exact kx_ne2 (by omega) | exact kx_ne1 (by omega) | refine kx_ro (by assumption) ?_ ?_ | exact kx_rs rfl | refine kx_ro rfl ?_ ?_))) rfl) ⟨⟨(Nat.le_of_ble_eq_true rfl), (Nat.le_of_ble_eq_true rfl)⟩, (Nat.le_of_ble_eq_true rfl), (Nat.le_of_ble_eq_true rfl), (Nat.le_of_ble_eq_true rfl)⟩ (fun v78 s78 h78 => ?_) (fun _ _ _ h => h.elim)
            obtain ⟨rfl, rfl⟩ := h78
            refine ri_callV C km_X4_toldAt q3213 qs90 dX4_turnsIn_81 (mt_X4_toldAt htr b0 bw o1 hk1 (Nat.mod_lt _ (by decide))) rfl rfl (kx_rcN C (by first | assumption | (repeat (first | assumption | exact kx_rs (by assumption) | exact kx_ne2 (by omega) | exact kx_ne1 (by omega) | refine kx_ro (by assumption) ?_ ?_ | exact kx_rs rfl | refine kx_ro rfl ?_ ?_))) rfl) ⟨⟨(Nat.le_of_ble_eq_true rfl), (Nat.le_of_ble_eq_true rfl)⟩, (Nat.le_of_ble_eq_true rfl), (Nat.le_of_ble_eq_true rfl), (Nat.le_of_ble_eq_true rfl)⟩ (fun v81 s81 h81 => ?_) (fun _ _ _ h => h.elim)
            obtain ⟨rfl, rfl⟩ := h81
            refine ri_iload_n C dX4_turnsIn_84 rfl ?_
            refine ri_icmp_ne C 92 dX4_turnsIn_85 rfl (fun h85 => ?_) (fun h85 => ?_)
            · have htl : ∀ a, mx_told v k1 (v 2 / 30 % 12) = some a → a < 5 := fun a => mx_told_b
              have h85 : ¬ mx_told v k1 (v 2 / 30 % 12) = some k2 := fun e => h85 (by rw [e]; rfl)
              refine ri_iconst C dX4_turnsIn_92 kc_im1 ?_
              refine ri_callV C km_X4_goesBack q3446 qs124 dX4_turnsIn_93 (mt_X4_goesBack htr (q := u) b0 bw ba (by intro j hj; exact mx_cut_r j hj)) rfl rfl (kx_rcN C (by first | assumption | (repeat (first | assumption | exact kx_rs (by assumption) | exact kx_ne2 (by omega) | exact kx_ne1 (by omega) | refine kx_ro (by assumption) ?_ ?_ | exact kx_rs rfl | refine kx_ro rfl ?_ ?_))) rfl) ⟨⟨(Nat.le_of_ble_eq_true rfl), (Nat.le_of_ble_eq_true rfl)⟩, (Nat.le_of_ble_eq_true rfl), (Nat.le_of_ble_eq_true rfl), (Nat.le_of_ble_eq_true rfl)⟩ (fun v93 s93 h93 => ?_) (fun _ _ _ h => h.elim)
              obtain ⟨rfl, e93⟩ := h93
              exact ri_iret C hQ dX4_turnsIn_96 rfl (Nat.le_of_ble_eq_true rfl) (Nat.le_of_ble_eq_true rfl) (by simp only [an_turnsIn, an_c, c1, c2, cond_true, nk1, nk2]; exact ⟨by first | rw [mx_fst_t hN (by unfold mx_tg; rw [qv, decide_eq_true_eq]; assumption) 100 (by omega)]; rfl | rw [show 100 = i + 1 by omega, mx_fst_s hN (by unfold mx_tg; rw [qv, decide_eq_false_iff_not]; assumption)]; rfl | exact absurd h51 h85, _, by rw [e93, mx_cut_i (fun j hj => o5 j hj), hI, e24, kx_up_b (by first | assumption | exact kx_ro e2 hw (by decide)) (by decide), e2]⟩)
            · have htl : ∀ a, mx_told v k1 (v 2 / 30 % 12) = some a → a < 5 := fun a => mx_told_b
              have h85 : mx_told v k1 (v 2 / 30 % 12) = some k2 := (mx_o_eq htl hk2).mp h85.symm
              refine ri_iload_n C dX4_turnsIn_88 rfl ?_
              refine ri_goto C 93 dX4_turnsIn_89 rfl ?_
              refine ri_callV C km_X4_goesBack q3446 qs124 dX4_turnsIn_93 (mt_X4_goesBack htr (q := u) b0 bw ba (by intro j hj; exact mx_cut_r j hj)) rfl rfl (kx_rcN C (by first | assumption | (repeat (first | assumption | exact kx_rs (by assumption) | exact kx_ne2 (by omega) | exact kx_ne1 (by omega) | refine kx_ro (by assumption) ?_ ?_ | exact kx_rs rfl | refine kx_ro rfl ?_ ?_))) rfl) ⟨⟨(Nat.le_of_ble_eq_true rfl), (Nat.le_of_ble_eq_true rfl)⟩, (Nat.le_of_ble_eq_true rfl), (Nat.le_of_ble_eq_true rfl), (Nat.le_of_ble_eq_true rfl)⟩ (fun v93 s93 h93 => ?_) (fun _ _ _ h => h.elim)
              obtain ⟨rfl, e93⟩ := h93
              exact ri_iret C hQ dX4_turnsIn_96 rfl (Nat.le_of_ble_eq_true rfl) (Nat.le_of_ble_eq_true rfl) (by simp only [an_turnsIn, an_c, c1, c2, cond_true, nk1, nk2]; exact ⟨by first | rw [mx_fst_t hN (by unfold mx_tg; rw [qv, decide_eq_true_eq]; assumption) 100 (by omega)]; rfl | rw [show 100 = i + 1 by omega, mx_fst_s hN (by unfold mx_tg; rw [qv, decide_eq_false_iff_not]; assumption)]; rfl | exact absurd h51 h85, _, by rw [e93, mx_cut_i (fun j hj => o5 j hj), hI, e24, kx_up_b (by first | assumption | exact kx_ro e2 hw (by decide)) (by decide), e2]⟩)
          · first | refine ri_aload_n C dX4_turnsIn_35 rfl ?_ | refine ri_aload_nQ C dX4_turnsIn_35 rfl ?_ | refine ri_aload_nN C dX4_turnsIn_35 rfl ?_
            refine ri_iload_n C dX4_turnsIn_36 rfl ?_
            first | refine ri_aload_n C dX4_turnsIn_37 rfl ?_ | refine ri_aload_nQ C dX4_turnsIn_37 rfl ?_ | refine ri_aload_nN C dX4_turnsIn_37 rfl ?_
            first | refine ri_aload_n C dX4_turnsIn_38 rfl ?_ | refine ri_aload_nQ C dX4_turnsIn_38 rfl ?_ | refine ri_aload_nN C dX4_turnsIn_38 rfl ?_
            refine ri_getf C dX4_turnsIn_39 fr_q2970_3 (by first | assumption | (repeat (first | assumption | exact kx_rs (by assumption) | exact kx_ne2 (by omega) | exact kx_ne1 (by omega) | refine kx_ro (by assumption) ?_ ?_ | exact kx_rs rfl | refine kx_ro rfl ?_ ?_))) (by rfl) ?_
            refine ri_iconst C dX4_turnsIn_42 kc_i2 ?_
            first | refine ri_ialoadN C dX4_turnsIn_43 (by first | assumption | (repeat (first | assumption | exact kx_rs (by assumption) | exact kx_ne2 (by omega) | exact kx_ne1 (by omega) | refine kx_ro (by assumption) ?_ ?_ | exact kx_rs rfl | refine kx_ro rfl ?_ ?_))) rfl (by omega) ?_ | refine ri_iaload C dX4_turnsIn_43 (by first | assumption | (repeat (first | assumption | exact kx_rs (by assumption) | exact kx_ne2 (by omega) | exact kx_ne1 (by omega) | refine kx_ro (by assumption) ?_ ?_ | exact kx_rs rfl | refine kx_ro rfl ?_ ?_))) rfl (by omega) ?_
            refine ri_callV C km_X4_monthOf q3205 qs88 dX4_turnsIn_44 (mt_X4_monthOf htr (by omega)) rfl rfl (kx_rcN C (by first | assumption | (repeat (first | assumption | exact kx_rs (by assumption) | exact kx_ne2 (by omega) | exact kx_ne1 (by omega) | refine kx_ro (by assumption) ?_ ?_ | exact kx_rs rfl | refine kx_ro rfl ?_ ?_))) rfl) ⟨⟨(Nat.le_of_ble_eq_true rfl), (Nat.le_of_ble_eq_true rfl)⟩, (Nat.le_of_ble_eq_true rfl), (Nat.le_of_ble_eq_true rfl), (Nat.le_of_ble_eq_true rfl)⟩ (fun v44 s44 h44 => ?_) (fun _ _ _ h => h.elim)
            obtain ⟨rfl, rfl⟩ := h44
            refine ri_callV C km_X4_toldAt q3213 qs90 dX4_turnsIn_47 (mt_X4_toldAt htr b0 bw o1 hk1 (Nat.mod_lt _ (by decide))) rfl rfl (kx_rcN C (by first | assumption | (repeat (first | assumption | exact kx_rs (by assumption) | exact kx_ne2 (by omega) | exact kx_ne1 (by omega) | refine kx_ro (by assumption) ?_ ?_ | exact kx_rs rfl | refine kx_ro rfl ?_ ?_))) rfl) ⟨⟨(Nat.le_of_ble_eq_true rfl), (Nat.le_of_ble_eq_true rfl)⟩, (Nat.le_of_ble_eq_true rfl), (Nat.le_of_ble_eq_true rfl), (Nat.le_of_ble_eq_true rfl)⟩ (fun v47 s47 h47 => ?_) (fun _ _ _ h => h.elim)
            obtain ⟨rfl, rfl⟩ := h47
            refine ri_iload_n C dX4_turnsIn_50 rfl ?_
            refine ri_icmp_eq C 68 dX4_turnsIn_51 rfl (fun h51 => ?_) (fun h51 => ?_)
            · have htl : ∀ a, mx_told v k1 (v 2 / 30 % 12) = some a → a < 5 := fun a => mx_told_b
              have h51 : mx_told v k1 (v 2 / 30 % 12) = some k2 := (mx_o_eq htl hk2).mp h51.symm
              first | refine ri_aload_n C dX4_turnsIn_68 rfl ?_ | refine ri_aload_nQ C dX4_turnsIn_68 rfl ?_ | refine ri_aload_nN C dX4_turnsIn_68 rfl ?_
              first | refine ri_aload_n C dX4_turnsIn_69 rfl ?_ | refine ri_aload_nQ C dX4_turnsIn_69 rfl ?_ | refine ri_aload_nN C dX4_turnsIn_69 rfl ?_
              refine ri_iload_n C dX4_turnsIn_70 rfl ?_
              first | refine ri_aload_n C dX4_turnsIn_71 rfl ?_ | refine ri_aload_nQ C dX4_turnsIn_71 rfl ?_ | refine ri_aload_nN C dX4_turnsIn_71 rfl ?_
              first | refine ri_aload_n C dX4_turnsIn_72 rfl ?_ | refine ri_aload_nQ C dX4_turnsIn_72 rfl ?_ | refine ri_aload_nN C dX4_turnsIn_72 rfl ?_
              refine ri_getf C dX4_turnsIn_73 fr_q2970_3 (by first | assumption | (repeat (first | assumption | exact kx_rs (by assumption) | exact kx_ne2 (by omega) | exact kx_ne1 (by omega) | refine kx_ro (by assumption) ?_ ?_ | exact kx_rs rfl | refine kx_ro rfl ?_ ?_))) (by rfl) ?_
              refine ri_iconst C dX4_turnsIn_76 kc_i2 ?_
              first | refine ri_ialoadN C dX4_turnsIn_77 (by first | assumption | (repeat (first | assumption | exact kx_rs (by assumption) | exact kx_ne2 (by omega) | exact kx_ne1 (by omega) | refine kx_ro (by assumption) ?_ ?_ | exact kx_rs rfl | refine kx_ro rfl ?_ ?_))) rfl (by omega) ?_ | refine ri_iaload C dX4_turnsIn_77 (by first | assumption | (repeat (first | assumption | exact kx_rs (by assumption) | exact kx_ne2 (by omega) | exact kx_ne1 (by omega) | refine kx_ro (by assumption) ?_ ?_ | exact kx_rs rfl | refine kx_ro rfl ?_ ?_))) rfl (by omega) ?_
              refine ri_callV C km_X4_monthOf q3205 qs88 dX4_turnsIn_78 (mt_X4_monthOf htr (by omega)) rfl rfl (kx_rcN C (by first | assumption | (repeat (first | assumption | exact kx_rs (by assumption) | exact kx_ne2 (by omega) | exact kx_ne1 (by omega) | refine kx_ro (by assumption) ?_ ?_ | exact kx_rs rfl | refine kx_ro rfl ?_ ?_))) rfl) ⟨⟨(Nat.le_of_ble_eq_true rfl), (Nat.le_of_ble_eq_true rfl)⟩, (Nat.le_of_ble_eq_true rfl), (Nat.le_of_ble_eq_true rfl), (Nat.le_of_ble_eq_true rfl)⟩ (fun v78 s78 h78 => ?_) (fun _ _ _ h => h.elim)
              obtain ⟨rfl, rfl⟩ := h78
              refine ri_callV C km_X4_toldAt q3213 qs90 dX4_turnsIn_81 (mt_X4_toldAt htr b0 bw o1 hk1 (Nat.mod_lt _ (by decide))) rfl rfl (kx_rcN C (by first | assumption | (repeat (first | assumption | exact kx_rs (by assumption) | exact kx_ne2 (by omega) | exact kx_ne1 (by omega) | refine kx_ro (by assumption) ?_ ?_ | exact kx_rs rfl | refine kx_ro rfl ?_ ?_))) rfl) ⟨⟨(Nat.le_of_ble_eq_true rfl), (Nat.le_of_ble_eq_true rfl)⟩, (Nat.le_of_ble_eq_true rfl), (Nat.le_of_ble_eq_true rfl), (Nat.le_of_ble_eq_true rfl)⟩ (fun v81 s81 h81 => ?_) (fun _ _ _ h => h.elim)
              obtain ⟨rfl, rfl⟩ := h81
              refine ri_iload_n C dX4_turnsIn_84 rfl ?_
              refine ri_icmp_ne C 92 dX4_turnsIn_85 rfl (fun h85 => ?_) (fun h85 => ?_)
              · have htl : ∀ a, mx_told v k1 (v 2 / 30 % 12) = some a → a < 5 := fun a => mx_told_b
                have h85 : ¬ mx_told v k1 (v 2 / 30 % 12) = some k2 := fun e => h85 (by rw [e]; rfl)
                refine ri_iconst C dX4_turnsIn_92 kc_im1 ?_
                refine ri_callV C km_X4_goesBack q3446 qs124 dX4_turnsIn_93 (mt_X4_goesBack htr (q := u) b0 bw ba (by intro j hj; exact mx_cut_r j hj)) rfl rfl (kx_rcN C (by first | assumption | (repeat (first | assumption | exact kx_rs (by assumption) | exact kx_ne2 (by omega) | exact kx_ne1 (by omega) | refine kx_ro (by assumption) ?_ ?_ | exact kx_rs rfl | refine kx_ro rfl ?_ ?_))) rfl) ⟨⟨(Nat.le_of_ble_eq_true rfl), (Nat.le_of_ble_eq_true rfl)⟩, (Nat.le_of_ble_eq_true rfl), (Nat.le_of_ble_eq_true rfl), (Nat.le_of_ble_eq_true rfl)⟩ (fun v93 s93 h93 => ?_) (fun _ _ _ h => h.elim)
                obtain ⟨rfl, e93⟩ := h93
                exact ri_iret C hQ dX4_turnsIn_96 rfl (Nat.le_of_ble_eq_true rfl) (Nat.le_of_ble_eq_true rfl) (by simp only [an_turnsIn, an_c, c1, c2, cond_true, nk1, nk2]; exact ⟨by first | rw [mx_fst_t hN (by unfold mx_tg; rw [qv, decide_eq_true_eq]; assumption) 100 (by omega)]; rfl | rw [show 100 = i + 1 by omega, mx_fst_s hN (by unfold mx_tg; rw [qv, decide_eq_false_iff_not]; assumption)]; rfl | exact absurd h51 h85, _, by rw [e93, mx_cut_i (fun j hj => o5 j hj), hI, e24, kx_up_b (by first | assumption | exact kx_ro e2 hw (by decide)) (by decide), e2]⟩)
              · have htl : ∀ a, mx_told v k1 (v 2 / 30 % 12) = some a → a < 5 := fun a => mx_told_b
                have h85 : mx_told v k1 (v 2 / 30 % 12) = some k2 := (mx_o_eq htl hk2).mp h85.symm
                refine ri_iload_n C dX4_turnsIn_88 rfl ?_
                refine ri_goto C 93 dX4_turnsIn_89 rfl ?_
                refine ri_callV C km_X4_goesBack q3446 qs124 dX4_turnsIn_93 (mt_X4_goesBack htr (q := u) b0 bw ba (by intro j hj; exact mx_cut_r j hj)) rfl rfl (kx_rcN C (by first | assumption | (repeat (first | assumption | exact kx_rs (by assumption) | exact kx_ne2 (by omega) | exact kx_ne1 (by omega) | refine kx_ro (by assumption) ?_ ?_ | exact kx_rs rfl | refine kx_ro rfl ?_ ?_))) rfl) ⟨⟨(Nat.le_of_ble_eq_true rfl), (Nat.le_of_ble_eq_true rfl)⟩, (Nat.le_of_ble_eq_true rfl), (Nat.le_of_ble_eq_true rfl), (Nat.le_of_ble_eq_true rfl)⟩ (fun v93 s93 h93 => ?_) (fun _ _ _ h => h.elim)
                obtain ⟨rfl, e93⟩ := h93
                exact ri_iret C hQ dX4_turnsIn_96 rfl (Nat.le_of_ble_eq_true rfl) (Nat.le_of_ble_eq_true rfl) (by simp only [an_turnsIn, an_c, c1, c2, cond_true, nk1, nk2]; exact ⟨by first | rw [mx_fst_t hN (by unfold mx_tg; rw [qv, decide_eq_true_eq]; assumption) 100 (by omega)]; rfl | rw [show 100 = i + 1 by omega, mx_fst_s hN (by unfold mx_tg; rw [qv, decide_eq_false_iff_not]; assumption)]; rfl | exact absurd h51 h85, _, by rw [e93, mx_cut_i (fun j hj => o5 j hj), hI, e24, kx_up_b (by first | assumption | exact kx_ro e2 hw (by decide)) (by decide), e2]⟩)
            · have htl : ∀ a, mx_told v k1 (v 2 / 30 % 12) = some a → a < 5 := fun a => mx_told_b
              have h51 : ¬ mx_told v k1 (v 2 / 30 % 12) = some k2 := fun e => h51 (by rw [e]; rfl)
              first | refine ri_aload_n C dX4_turnsIn_54 rfl ?_ | refine ri_aload_nQ C dX4_turnsIn_54 rfl ?_ | refine ri_aload_nN C dX4_turnsIn_54 rfl ?_
              refine ri_iload_n C dX4_turnsIn_55 rfl ?_
              refine ri_iload_n C dX4_turnsIn_56 rfl ?_
              refine ri_callV C km_X4_passes q3201 qs87 dX4_turnsIn_57 (mt_X4_passes htr b0 bw o1 hk1 hk2 o3 (by omega) (by omega)) rfl rfl (kx_rcN C (by first | assumption | (repeat (first | assumption | exact kx_rs (by assumption) | exact kx_ne2 (by omega) | exact kx_ne1 (by omega) | refine kx_ro (by assumption) ?_ ?_ | exact kx_rs rfl | refine kx_ro rfl ?_ ?_))) rfl) ⟨⟨(Nat.le_of_ble_eq_true rfl), (Nat.le_of_ble_eq_true rfl)⟩, (Nat.le_of_ble_eq_true rfl), (Nat.le_of_ble_eq_true rfl), (Nat.le_of_ble_eq_true rfl)⟩ (fun v57 s57 h57 => ?_) (fun _ _ _ h => h.elim)
              obtain ⟨rfl, e57⟩ := h57
              refine ri_istore C dX4_turnsIn_60 rfl (by decide) ?_
              first | refine ri_iincN C dX4_turnsIn_62 rfl rfl (by decide) ?_ | refine ri_iinc C dX4_turnsIn_62 rfl rfl rfl (by decide) ?_
              refine ri_goto C 29 dX4_turnsIn_65 rfl ?_
              refine ri_lv2 (ih (i + 1) _ (by omega) (by omega) ⟨?_, mx_fst_s hN (by unfold mx_tg; rw [qv, decide_eq_false_iff_not]; exact h51)⟩) ⟨rfl, rfl, rfl, rfl, trivial⟩
              rw [mx_lv, qv, e57, hI, kx_up_u]
      refine ri_lv2 (LP 100 0 _ (by omega) (by omega) ⟨?_, rfl⟩) ⟨rfl, rfl, rfl, rfl, trivial⟩
      exact (kx_up_i (kx_ro e24 (by first | assumption | exact kx_ro e2 hw (by decide)) (by decide))).symm
    · have c2 : mx_ix y 5 = false := kx_bn_t h18
      rw [c2, cond_false] at e15
      refine ri_iconst C dX4_turnsIn_21 kc_i0 ?_
      exact ri_iret C hQ dX4_turnsIn_22 rfl (Nat.le_of_ble_eq_true rfl) (Nat.le_of_ble_eq_true rfl) (by refine ⟨by simp only [an_turnsIn, an_c, *, Bool.and_true, Bool.and_false, Bool.true_and, Bool.false_and, cond_true, cond_false] <;> rfl, kx_A_i ha ?_⟩; simp only [an_turnsIn, an_c, *, Bool.and_true, Bool.and_false, Bool.true_and, Bool.false_and, cond_true, cond_false, kx_up_u, mo_z_z])
set_option maxHeartbeats 1000000 in
theorem mt_X4_weightIn {l : Launch} {G : kx_G} (htr : l.stackTraces = false) {σ : kx_H} {mo : Nat} {ad : Nat → Nat} {z : Nat → Int32} {u : Nat → Nat} {q x y d : Int32} (h0 : σ (1, 0) = some (mo, .inr (3, mo_L ad z))) (hw : σ (1, 1) = some (ad 0, kx_ai G 1417 (mx_w u))) {A : Nat → Int32} (ha : σ (1, 3) = some (ad 2, kx_ai G 1417 A)) (hu : mx_ok u) {B : Nat} (hB : mx_le B u) (hb : B < 700000000) (hd : u 2 ≤ 720) : kx_SP l G yX4_weightIn (ws_ yX4_weightIn cX4_weightIn 7 (some .int)) 12 0 0 [.ref mo, .int q, .int x, .int y, .int d] σ (fun v τ => v = some (.int (an_weightIn u q x y d).2) ∧ ∃ A', τ = kx_up (kx_up σ (1, 0) (mo, .inr (3, mo_L ad (mo_z z 9 (nI (an_weightIn u q x y d).1))))) (1, 3) (ad 2, kx_ai G 1417 A')) kx_nx := by
  refine kx_body htr (by decide +kernel) (own := "RoseProverbsModel") (nm := "weightIn") rfl rfl (Nat.le_of_ble_eq_true rfl) ?_
  intro p e s m args below meth c Q C hQ
  have gn := hu.1
  first | refine ri_aload_n C dX4_weightIn_0 rfl ?_ | refine ri_aload_nQ C dX4_weightIn_0 rfl ?_ | refine ri_aload_nN C dX4_weightIn_0 rfl ?_
  refine ri_iconst C dX4_weightIn_1 kc_i0 ?_
  refine ri_putf C dX4_weightIn_2 fd_q2979_3 (fun h => nomatch h) (by first | assumption | (repeat (first | assumption | exact kx_rs (by assumption) | exact kx_ne2 (by omega) | exact kx_ne1 (by omega) | refine kx_ro (by assumption) ?_ ?_ | exact kx_rs rfl | refine kx_ro rfl ?_ ?_))) (Nat.le_of_ble_eq_true rfl) (by rfl) (by rfl) mo_set9 (fun s2 e2 => ?_)
  first | refine ri_aload_n C dX4_weightIn_5 rfl ?_ | refine ri_aload_nQ C dX4_weightIn_5 rfl ?_ | refine ri_aload_nN C dX4_weightIn_5 rfl ?_
  refine ri_iload_n C dX4_weightIn_6 rfl ?_
  refine ri_callV C km_X4_noProverb q3342 qs113 dX4_weightIn_7 (mt_X4_noProverb htr (by first | assumption | (repeat (first | assumption | exact kx_rs (by assumption) | exact kx_ne2 (by omega) | exact kx_ne1 (by omega) | refine kx_ro (by assumption) ?_ ?_ | exact kx_rs rfl | refine kx_ro rfl ?_ ?_))) (by first | assumption | (repeat (first | assumption | exact kx_rs (by assumption) | exact kx_ne2 (by omega) | exact kx_ne1 (by omega) | refine kx_ro (by assumption) ?_ ?_ | exact kx_rs rfl | refine kx_ro rfl ?_ ?_))) (by omega)) rfl rfl (kx_rcN C (by first | assumption | (repeat (first | assumption | exact kx_rs (by assumption) | exact kx_ne2 (by omega) | exact kx_ne1 (by omega) | refine kx_ro (by assumption) ?_ ?_ | exact kx_rs rfl | refine kx_ro rfl ?_ ?_))) rfl) ⟨⟨(Nat.le_of_ble_eq_true rfl), (Nat.le_of_ble_eq_true rfl)⟩, (Nat.le_of_ble_eq_true rfl), (Nat.le_of_ble_eq_true rfl), (Nat.le_of_ble_eq_true rfl)⟩ (fun v7 s7 h7 => ?_) (fun _ _ _ h => h.elim)
  obtain ⟨rfl, e7⟩ := h7
  first | refine ri_if_neB C 53 dX4_weightIn_10 rfl (fun h10 => ?_) (fun h10 => ?_) | refine ri_if_neN C 53 dX4_weightIn_10 rfl (by omega) (fun h10 => ?_) (fun h10 => ?_) | refine ri_if_ne C 53 dX4_weightIn_10 rfl (fun h10 => ?_) (fun h10 => ?_)
  · have c1 : mx_ix q (u 0) = false := kx_bn_t h10
    rw [c1, cond_false] at e7
    refine ri_iconst C dX4_weightIn_53 kc_i0 ?_
    exact ri_iret C hQ dX4_weightIn_54 rfl (Nat.le_of_ble_eq_true rfl) (Nat.le_of_ble_eq_true rfl) (by refine ⟨by simp only [an_weightIn, an_c, *, Bool.and_true, Bool.and_false, Bool.true_and, Bool.false_and, cond_true, cond_false] <;> rfl, kx_A_i ha ?_⟩; simp only [an_weightIn, an_c, *, Bool.and_true, Bool.and_false, Bool.true_and, Bool.false_and, cond_true, cond_false, kx_up_u, mo_z_z])
  · have c1 : mx_ix q (u 0) = true := kx_bn_f h10
    rw [c1, cond_true] at e7
    subst e7
    obtain ⟨k1, hk1, rfl⟩ := mx_ix_t c1
    have nk1 : mx_n (nI k1) = k1 := mx_n_nI (by omega)
    first | refine ri_aload_n C dX4_weightIn_13 rfl ?_ | refine ri_aload_nQ C dX4_weightIn_13 rfl ?_ | refine ri_aload_nN C dX4_weightIn_13 rfl ?_
    refine ri_iload_n C dX4_weightIn_14 rfl ?_
    refine ri_callV C km_X4_noPoint q3354 qs115 dX4_weightIn_15 (mt_X4_noPoint htr (by first | assumption | (repeat (first | assumption | exact kx_rs (by assumption) | exact kx_ne2 (by omega) | exact kx_ne1 (by omega) | refine kx_ro (by assumption) ?_ ?_ | exact kx_rs rfl | refine kx_ro rfl ?_ ?_)))) rfl rfl (kx_rcN C (by first | assumption | (repeat (first | assumption | exact kx_rs (by assumption) | exact kx_ne2 (by omega) | exact kx_ne1 (by omega) | refine kx_ro (by assumption) ?_ ?_ | exact kx_rs rfl | refine kx_ro rfl ?_ ?_))) rfl) ⟨⟨(Nat.le_of_ble_eq_true rfl), (Nat.le_of_ble_eq_true rfl)⟩, (Nat.le_of_ble_eq_true rfl), (Nat.le_of_ble_eq_true rfl), (Nat.le_of_ble_eq_true rfl)⟩ (fun v15 s15 h15 => ?_) (fun _ _ _ h => h.elim)
    obtain ⟨rfl, e15⟩ := h15
    first | refine ri_if_neB C 53 dX4_weightIn_18 rfl (fun h18 => ?_) (fun h18 => ?_) | refine ri_if_neN C 53 dX4_weightIn_18 rfl (by omega) (fun h18 => ?_) (fun h18 => ?_) | refine ri_if_ne C 53 dX4_weightIn_18 rfl (fun h18 => ?_) (fun h18 => ?_)
    · have c2 : mx_ix x 16 = false := kx_bn_t h18
      rw [c2, cond_false] at e15
      refine ri_iconst C dX4_weightIn_53 kc_i0 ?_
      exact ri_iret C hQ dX4_weightIn_54 rfl (Nat.le_of_ble_eq_true rfl) (Nat.le_of_ble_eq_true rfl) (by refine ⟨by simp only [an_weightIn, an_c, *, Bool.and_true, Bool.and_false, Bool.true_and, Bool.false_and, cond_true, cond_false] <;> rfl, kx_A_i ha ?_⟩; simp only [an_weightIn, an_c, *, Bool.and_true, Bool.and_false, Bool.true_and, Bool.false_and, cond_true, cond_false, kx_up_u, mo_z_z])
    · have c2 : mx_ix x 16 = true := kx_bn_f h18
      rw [c2, cond_true] at e15
      subst e15
      obtain ⟨k2, hk2, rfl⟩ := mx_ix_t c2
      have nk2 : mx_n (nI k2) = k2 := mx_n_nI (by omega)
      first | refine ri_aload_n C dX4_weightIn_21 rfl ?_ | refine ri_aload_nQ C dX4_weightIn_21 rfl ?_ | refine ri_aload_nN C dX4_weightIn_21 rfl ?_
      refine ri_iload_n C dX4_weightIn_22 rfl ?_
      refine ri_callV C km_X4_noWeather q3370 qs116 dX4_weightIn_23 (mt_X4_noWeather htr (by first | assumption | (repeat (first | assumption | exact kx_rs (by assumption) | exact kx_ne2 (by omega) | exact kx_ne1 (by omega) | refine kx_ro (by assumption) ?_ ?_ | exact kx_rs rfl | refine kx_ro rfl ?_ ?_)))) rfl rfl (kx_rcN C (by first | assumption | (repeat (first | assumption | exact kx_rs (by assumption) | exact kx_ne2 (by omega) | exact kx_ne1 (by omega) | refine kx_ro (by assumption) ?_ ?_ | exact kx_rs rfl | refine kx_ro rfl ?_ ?_))) rfl) ⟨⟨(Nat.le_of_ble_eq_true rfl), (Nat.le_of_ble_eq_true rfl)⟩, (Nat.le_of_ble_eq_true rfl), (Nat.le_of_ble_eq_true rfl), (Nat.le_of_ble_eq_true rfl)⟩ (fun v23 s23 h23 => ?_) (fun _ _ _ h => h.elim)
      obtain ⟨rfl, e23⟩ := h23
      first | refine ri_if_neB C 53 dX4_weightIn_26 rfl (fun h26 => ?_) (fun h26 => ?_) | refine ri_if_neN C 53 dX4_weightIn_26 rfl (by omega) (fun h26 => ?_) (fun h26 => ?_) | refine ri_if_ne C 53 dX4_weightIn_26 rfl (fun h26 => ?_) (fun h26 => ?_)
      · have c3 : mx_ix y 5 = false := kx_bn_t h26
        rw [c3, cond_false] at e23
        refine ri_iconst C dX4_weightIn_53 kc_i0 ?_
        exact ri_iret C hQ dX4_weightIn_54 rfl (Nat.le_of_ble_eq_true rfl) (Nat.le_of_ble_eq_true rfl) (by refine ⟨by simp only [an_weightIn, an_c, *, Bool.and_true, Bool.and_false, Bool.true_and, Bool.false_and, cond_true, cond_false] <;> rfl, kx_A_i ha ?_⟩; simp only [an_weightIn, an_c, *, Bool.and_true, Bool.and_false, Bool.true_and, Bool.false_and, cond_true, cond_false, kx_up_u, mo_z_z])
      · have c3 : mx_ix y 5 = true := kx_bn_f h26
        rw [c3, cond_true] at e23
        subst e23
        obtain ⟨k3, hk3, rfl⟩ := mx_ix_t c3
        have nk3 : mx_n (nI k3) = k3 := mx_n_nI (by omega)
        first | refine ri_aload_n C dX4_weightIn_29 rfl ?_ | refine ri_aload_nQ C dX4_weightIn_29 rfl ?_ | refine ri_aload_nN C dX4_weightIn_29 rfl ?_
        refine ri_iload C dX4_weightIn_30 rfl ?_
        refine ri_iconst C dX4_weightIn_32 kc_i0 ?_
        refine ri_bipush C dX4_weightIn_33 kc_b99 ?_
        cases c4 : mx_ix d 100
        · refine ri_callS C km_X4_inRange q3071 dX4_weightIn_35 (mt_X4_inRange htr) rfl rfl ⟨⟨(Nat.le_of_ble_eq_true rfl), (Nat.le_of_ble_eq_true rfl)⟩, (Nat.le_of_ble_eq_true rfl), (Nat.le_of_ble_eq_true rfl), (Nat.le_of_ble_eq_true rfl)⟩ (fun v35 s35 h35 => ?_) (fun _ _ _ h => h.elim)
          obtain ⟨rfl, rfl⟩ := h35
          rw [mx_ix_0 (by decide), c4]
          first | refine ri_if_neB C 45 dX4_weightIn_38 rfl (fun h38 => ?_) (fun h38 => ?_) | refine ri_if_neN C 45 dX4_weightIn_38 rfl (by omega) (fun h38 => ?_) (fun h38 => ?_) | refine ri_if_ne C 45 dX4_weightIn_38 rfl (fun h38 => ?_) (fun h38 => ?_)
          · exact absurd h38 (by decide) --dead
          · refine ri_iconst C dX4_weightIn_41 kc_i1 ?_
            refine ri_goto C 46 dX4_weightIn_42 rfl ?_
            refine ri_iconst C dX4_weightIn_46 kc_i2 ?_
            refine ri_callV C km_X4_fails q3303 qs106 dX4_weightIn_47 (mt_X4_fails htr (b := true) (by first | assumption | (repeat (first | assumption | exact kx_rs (by assumption) | exact kx_ne2 (by omega) | exact kx_ne1 (by omega) | refine kx_ro (by assumption) ?_ ?_ | exact kx_rs rfl | refine kx_ro rfl ?_ ?_)))) rfl rfl (kx_rcN C (by first | assumption | (repeat (first | assumption | exact kx_rs (by assumption) | exact kx_ne2 (by omega) | exact kx_ne1 (by omega) | refine kx_ro (by assumption) ?_ ?_ | exact kx_rs rfl | refine kx_ro rfl ?_ ?_))) rfl) ⟨⟨(Nat.le_of_ble_eq_true rfl), (Nat.le_of_ble_eq_true rfl)⟩, (Nat.le_of_ble_eq_true rfl), (Nat.le_of_ble_eq_true rfl), (Nat.le_of_ble_eq_true rfl)⟩ (fun v47 s47 h47 => ?_) (fun _ _ _ h => h.elim)
            obtain ⟨rfl, e47⟩ := h47
            rw [cond_true] at e47
            first | refine ri_if_eqB C 55 dX4_weightIn_50 rfl (fun h50 => ?_) (fun h50 => ?_) | refine ri_if_eqN C 55 dX4_weightIn_50 rfl (by omega) (fun h50 => ?_) (fun h50 => ?_) | refine ri_if_eq C 55 dX4_weightIn_50 rfl (fun h50 => ?_) (fun h50 => ?_)
            · exact absurd h50 (by decide) --dead
            · refine ri_iconst C dX4_weightIn_53 kc_i0 ?_
              exact ri_iret C hQ dX4_weightIn_54 rfl (Nat.le_of_ble_eq_true rfl) (Nat.le_of_ble_eq_true rfl) (by refine ⟨by simp only [an_weightIn, an_c, *, Bool.and_true, Bool.and_false, Bool.true_and, Bool.false_and, cond_true, cond_false] <;> rfl, kx_A_i ha ?_⟩; simp only [an_weightIn, an_c, *, Bool.and_true, Bool.and_false, Bool.true_and, Bool.false_and, cond_true, cond_false, kx_up_u, mo_z_z])
        · obtain ⟨k4, hk4, rfl⟩ := mx_ix_t c4
          have nk4 : mx_n (nI k4) = k4 := mx_n_nI (by omega)
          refine ri_callS C km_X4_inRange q3071 dX4_weightIn_35 (mt_X4_inRange htr) rfl rfl ⟨⟨(Nat.le_of_ble_eq_true rfl), (Nat.le_of_ble_eq_true rfl)⟩, (Nat.le_of_ble_eq_true rfl), (Nat.le_of_ble_eq_true rfl), (Nat.le_of_ble_eq_true rfl)⟩ (fun v35 s35 h35 => ?_) (fun _ _ _ h => h.elim)
          obtain ⟨rfl, rfl⟩ := h35
          rw [mx_ix_0 (by decide), c4]
          first | refine ri_if_neB C 45 dX4_weightIn_38 rfl (fun h38 => ?_) (fun h38 => ?_) | refine ri_if_neN C 45 dX4_weightIn_38 rfl (by omega) (fun h38 => ?_) (fun h38 => ?_) | refine ri_if_ne C 45 dX4_weightIn_38 rfl (fun h38 => ?_) (fun h38 => ?_)
          · refine ri_iconst C dX4_weightIn_45 kc_i0 ?_
            refine ri_iconst C dX4_weightIn_46 kc_i2 ?_
            refine ri_callV C km_X4_fails q3303 qs106 dX4_weightIn_47 (mt_X4_fails htr (b := false) (by first | assumption | (repeat (first | assumption | exact kx_rs (by assumption) | exact kx_ne2 (by omega) | exact kx_ne1 (by omega) | refine kx_ro (by assumption) ?_ ?_ | exact kx_rs rfl | refine kx_ro rfl ?_ ?_)))) rfl rfl (kx_rcN C (by first | assumption | (repeat (first | assumption | exact kx_rs (by assumption) | exact kx_ne2 (by omega) | exact kx_ne1 (by omega) | refine kx_ro (by assumption) ?_ ?_ | exact kx_rs rfl | refine kx_ro rfl ?_ ?_))) rfl) ⟨⟨(Nat.le_of_ble_eq_true rfl), (Nat.le_of_ble_eq_true rfl)⟩, (Nat.le_of_ble_eq_true rfl), (Nat.le_of_ble_eq_true rfl), (Nat.le_of_ble_eq_true rfl)⟩ (fun v47 s47 h47 => ?_) (fun _ _ _ h => h.elim)
            obtain ⟨rfl, e47⟩ := h47
            rw [cond_false] at e47
            subst e47
            first | refine ri_if_eqB C 55 dX4_weightIn_50 rfl (fun h50 => ?_) (fun h50 => ?_) | refine ri_if_eqN C 55 dX4_weightIn_50 rfl (by omega) (fun h50 => ?_) (fun h50 => ?_) | refine ri_if_eq C 55 dX4_weightIn_50 rfl (fun h50 => ?_) (fun h50 => ?_)
            · first | refine ri_aload_n C dX4_weightIn_55 rfl ?_ | refine ri_aload_nQ C dX4_weightIn_55 rfl ?_ | refine ri_aload_nN C dX4_weightIn_55 rfl ?_
              refine ri_callV C km_X4_goesAside q3442 qs123 dX4_weightIn_56 (mt_X4_goesAside htr (by first | assumption | (repeat (first | assumption | exact kx_rs (by assumption) | exact kx_ne2 (by omega) | exact kx_ne1 (by omega) | refine kx_ro (by assumption) ?_ ?_ | exact kx_rs rfl | refine kx_ro rfl ?_ ?_))) (by first | assumption | (repeat (first | assumption | exact kx_rs (by assumption) | exact kx_ne2 (by omega) | exact kx_ne1 (by omega) | refine kx_ro (by assumption) ?_ ?_ | exact kx_rs rfl | refine kx_ro rfl ?_ ?_))) (by first | assumption | (repeat (first | assumption | exact kx_rs (by assumption) | exact kx_ne2 (by omega) | exact kx_ne1 (by omega) | refine kx_ro (by assumption) ?_ ?_ | exact kx_rs rfl | refine kx_ro rfl ?_ ?_)))) rfl rfl (kx_rcN C (by first | assumption | (repeat (first | assumption | exact kx_rs (by assumption) | exact kx_ne2 (by omega) | exact kx_ne1 (by omega) | refine kx_ro (by assumption) ?_ ?_ | exact kx_rs rfl | refine kx_ro rfl ?_ ?_))) rfl) ⟨⟨(Nat.le_of_ble_eq_true rfl), (Nat.le_of_ble_eq_true rfl)⟩, (Nat.le_of_ble_eq_true rfl), (Nat.le_of_ble_eq_true rfl), (Nat.le_of_ble_eq_true rfl)⟩ (fun v56 s56 h56 => ?_) (fun _ _ _ h => h.elim)
              obtain ⟨rfl, e56⟩ := h56
              refine ri_iconst C dX4_weightIn_59 kc_i0 ?_
              refine ri_istore C dX4_weightIn_60 rfl (by decide) ?_
              have LP : ∀ (wk i : Nat) (τ : kx_H), i ≤ k4 → k4 < i + wk → τ = kx_up s56 (1, 1) (ad 0, kx_ai G 1417 (mx_w (mx_lv k2 k3 u i))) → kx_V G l p e (kx_rm 12 0 0) s m args below meth c 7 Q 62 [(0, .ref mo), (1, .int (nI k1)), (2, .int (nI k2)), (3, .int (nI k3)), (4, .int (nI k4)), (5, .int (nI i))] [] τ 0 0 := by
                intro wk
                induction wk with
                | zero => intro i τ h1 h2; exact absurd h2 (by omega)
                | succ wk ih =>
                  intro i τ hi hwk hI
                  have hv := mx_lv_f (wi := k2) (we := k3) hu hB i
                  generalize qv : mx_lv k2 k3 u i = v at *
                  obtain ⟨o1, o2, o3, o4, o5⟩ := hv
                  have b0 := kx_ro hI (kx_ro e56 (kx_rs e2) (by decide)) (by decide)
                  have bw := kx_rs hI
                  have ba := kx_ro hI (kx_rs e56) (by decide)
                  refine ri_iload C dX4_weightIn_62 rfl ?_
                  refine ri_iload C dX4_weightIn_64 rfl ?_
                  first | refine ri_icmp_geN C 83 dX4_weightIn_66 rfl (by omega) (by omega) (fun h66 => ?_) (fun h66 => ?_) | refine ri_icmp_ge C 83 dX4_weightIn_66 rfl (fun h66 => ?_) (fun h66 => ?_)
                  · obtain rfl : i = k4 := by omega
                    first | refine ri_aload_n C dX4_weightIn_83 rfl ?_ | refine ri_aload_nQ C dX4_weightIn_83 rfl ?_ | refine ri_aload_nN C dX4_weightIn_83 rfl ?_
                    first | refine ri_aload_n C dX4_weightIn_84 rfl ?_ | refine ri_aload_nQ C dX4_weightIn_84 rfl ?_ | refine ri_aload_nN C dX4_weightIn_84 rfl ?_
                    refine ri_iload_n C dX4_weightIn_85 rfl ?_
                    refine ri_bipush C dX4_weightIn_86 kc_b6 ?_
                    refine ri_callV C km_X4_of q3140 qs75 dX4_weightIn_88 (mt_X4_of htr b0 bw (by omega)) rfl rfl (kx_rcN C (by first | assumption | (repeat (first | assumption | exact kx_rs (by assumption) | exact kx_ne2 (by omega) | exact kx_ne1 (by omega) | refine kx_ro (by assumption) ?_ ?_ | exact kx_rs rfl | refine kx_ro rfl ?_ ?_))) rfl) ⟨⟨(Nat.le_of_ble_eq_true rfl), (Nat.le_of_ble_eq_true rfl)⟩, (Nat.le_of_ble_eq_true rfl), (Nat.le_of_ble_eq_true rfl), (Nat.le_of_ble_eq_true rfl)⟩ (fun v88 s88 h88 => ?_) (fun _ _ _ h => h.elim)
                    obtain ⟨rfl, rfl⟩ := h88
                    refine ri_callV C km_X4_goesBack q3446 qs124 dX4_weightIn_91 (mt_X4_goesBack htr (q := u) b0 bw ba (by intro j hj; exact mx_cut_r j hj)) rfl rfl (kx_rcN C (by first | assumption | (repeat (first | assumption | exact kx_rs (by assumption) | exact kx_ne2 (by omega) | exact kx_ne1 (by omega) | refine kx_ro (by assumption) ?_ ?_ | exact kx_rs rfl | refine kx_ro rfl ?_ ?_))) rfl) ⟨⟨(Nat.le_of_ble_eq_true rfl), (Nat.le_of_ble_eq_true rfl)⟩, (Nat.le_of_ble_eq_true rfl), (Nat.le_of_ble_eq_true rfl), (Nat.le_of_ble_eq_true rfl)⟩ (fun v91 s91 h91 => ?_) (fun _ _ _ h => h.elim)
                    obtain ⟨rfl, e91⟩ := h91
                    exact ri_iret C hQ dX4_weightIn_94 rfl (Nat.le_of_ble_eq_true rfl) (Nat.le_of_ble_eq_true rfl) (by simp only [an_weightIn, an_c, c1, c2, c3, c4, cond_true, nk1, nk2, nk3, nk4]; exact ⟨by rw [qv], _, by rw [e91, mx_cut_i (fun j hj => o5 j hj), hI, e56, kx_up_b (by first | assumption | exact kx_ro e2 hw (by decide)) (by decide), e2]⟩)
                  · first | refine ri_aload_n C dX4_weightIn_69 rfl ?_ | refine ri_aload_nQ C dX4_weightIn_69 rfl ?_ | refine ri_aload_nN C dX4_weightIn_69 rfl ?_
                    refine ri_iload_n C dX4_weightIn_70 rfl ?_
                    refine ri_iload_n C dX4_weightIn_71 rfl ?_
                    refine ri_callV C km_X4_passes q3201 qs87 dX4_weightIn_72 (mt_X4_passes htr b0 bw o1 hk2 hk3 o3 (by omega) (by omega)) rfl rfl (kx_rcN C (by first | assumption | (repeat (first | assumption | exact kx_rs (by assumption) | exact kx_ne2 (by omega) | exact kx_ne1 (by omega) | refine kx_ro (by assumption) ?_ ?_ | exact kx_rs rfl | refine kx_ro rfl ?_ ?_))) rfl) ⟨⟨(Nat.le_of_ble_eq_true rfl), (Nat.le_of_ble_eq_true rfl)⟩, (Nat.le_of_ble_eq_true rfl), (Nat.le_of_ble_eq_true rfl), (Nat.le_of_ble_eq_true rfl)⟩ (fun v72 s72 h72 => ?_) (fun _ _ _ h => h.elim)
                    obtain ⟨rfl, e72⟩ := h72
                    refine ri_istore C dX4_weightIn_75 rfl (by decide) ?_
                    first | refine ri_iincN C dX4_weightIn_77 rfl rfl (by decide) ?_ | refine ri_iinc C dX4_weightIn_77 rfl rfl rfl (by decide) ?_
                    refine ri_goto C 62 dX4_weightIn_80 rfl ?_
                    refine ri_lv2 (ih (i + 1) _ (by omega) (by omega) ?_) ⟨rfl, rfl, rfl, rfl, rfl, rfl, trivial⟩
                    rw [mx_lv, qv, e72, hI, kx_up_u]
              refine ri_lv2 (LP (k4 + 1) 0 _ (by omega) (by omega) ?_) ⟨rfl, rfl, rfl, rfl, rfl, rfl, trivial⟩
              exact (kx_up_i (kx_ro e56 (by first | assumption | exact kx_ro e2 hw (by decide)) (by decide))).symm
            · exact absurd h50 (by decide) --dead
          · exact absurd h38 (by decide) --dead
theorem mx_o_inj {a b : Option Nat} (ha : ∀ x, a = some x → x < 5) (hb : ∀ x, b = some x → x < 5) (h : mx_o a = mx_o b) : a = b := by
  cases a with
  | none =>
    cases b with
    | none => rfl
    | some y => exact absurd h.symm (nI_m1 (by have := hb y rfl; omega))
  | some x =>
    cases b with
    | none => exact absurd h (nI_m1 (by have := ha x rfl; omega))
    | some y => exact ((mx_o_eq (o := some y) hb (ha x rfl)).mp h).symm
set_option maxHeartbeats 1000000 in
theorem mt_X4_reachOf {l : Launch} {G : kx_G} (htr : l.stackTraces = false) {σ : kx_H} {mo : Nat} {ad : Nat → Nat} {z : Nat → Int32} {u : Nat → Nat} {x : Int32} {T : Nat → Int32} (h0 : σ (1, 0) = some (mo, .inr (3, mo_L ad z))) (hw : σ (1, 1) = some (ad 0, kx_ai G 1417 (mx_w u))) {A : Nat → Int32} (ha : σ (1, 3) = some (ad 2, kx_ai G 1417 A)) (ht : σ (1, 26) = some (ad 25, kx_ai G 192 T)) (hu : mx_ok u) : kx_SP l G yX4_reachOf (ws_ yX4_reachOf cX4_reachOf 4 (some .int)) 9 0 0 [.ref mo, .int x] σ (fun v τ => v = some (.int (an_reachOf u x).2) ∧ ∃ A' T', τ = kx_up (kx_up (kx_up σ (1, 0) (mo, .inr (3, mo_L ad (mo_z z 9 (nI (an_reachOf u x).1))))) (1, 3) (ad 2, kx_ai G 1417 A')) (1, 26) (ad 25, kx_ai G 192 T')) kx_nx := by
  refine kx_body htr (by decide +kernel) (own := "RoseProverbsModel") (nm := "reachOf") rfl rfl (Nat.le_of_ble_eq_true rfl) ?_
  intro p e s m args below meth c Q C hQ
  have gn := hu.1
  first | refine ri_aload_n C dX4_reachOf_0 rfl ?_ | refine ri_aload_nQ C dX4_reachOf_0 rfl ?_ | refine ri_aload_nN C dX4_reachOf_0 rfl ?_
  refine ri_iconst C dX4_reachOf_1 kc_i0 ?_
  refine ri_putf C dX4_reachOf_2 fd_q2979_3 (fun h => nomatch h) (by first | assumption | (repeat (first | assumption | exact kx_rs (by assumption) | exact kx_ne2 (by omega) | exact kx_ne1 (by omega) | refine kx_ro (by assumption) ?_ ?_ | exact kx_rs rfl | refine kx_ro rfl ?_ ?_))) (Nat.le_of_ble_eq_true rfl) (by rfl) (by rfl) mo_set9 (fun s2 e2 => ?_)
  first | refine ri_aload_n C dX4_reachOf_5 rfl ?_ | refine ri_aload_nQ C dX4_reachOf_5 rfl ?_ | refine ri_aload_nN C dX4_reachOf_5 rfl ?_
  refine ri_iload_n C dX4_reachOf_6 rfl ?_
  refine ri_callV C km_X4_noProverb q3342 qs113 dX4_reachOf_7 (mt_X4_noProverb htr (by first | assumption | (repeat (first | assumption | exact kx_rs (by assumption) | exact kx_ne2 (by omega) | exact kx_ne1 (by omega) | refine kx_ro (by assumption) ?_ ?_ | exact kx_rs rfl | refine kx_ro rfl ?_ ?_))) (by first | assumption | (repeat (first | assumption | exact kx_rs (by assumption) | exact kx_ne2 (by omega) | exact kx_ne1 (by omega) | refine kx_ro (by assumption) ?_ ?_ | exact kx_rs rfl | refine kx_ro rfl ?_ ?_))) (by omega)) rfl rfl (kx_rcN C (by first | assumption | (repeat (first | assumption | exact kx_rs (by assumption) | exact kx_ne2 (by omega) | exact kx_ne1 (by omega) | refine kx_ro (by assumption) ?_ ?_ | exact kx_rs rfl | refine kx_ro rfl ?_ ?_))) rfl) ⟨⟨(Nat.le_of_ble_eq_true rfl), (Nat.le_of_ble_eq_true rfl)⟩, (Nat.le_of_ble_eq_true rfl), (Nat.le_of_ble_eq_true rfl), (Nat.le_of_ble_eq_true rfl)⟩ (fun v7 s7 h7 => ?_) (fun _ _ _ h => h.elim)
  obtain ⟨rfl, e7⟩ := h7
  first | refine ri_if_eqB C 15 dX4_reachOf_10 rfl (fun h10 => ?_) (fun h10 => ?_) | refine ri_if_eqN C 15 dX4_reachOf_10 rfl (by omega) (fun h10 => ?_) (fun h10 => ?_) | refine ri_if_eq C 15 dX4_reachOf_10 rfl (fun h10 => ?_) (fun h10 => ?_)
  · have c1 : mx_ix x (u 0) = true := kx_bn_f h10
    rw [c1, cond_true] at e7
    subst e7
    obtain ⟨k1, hk1, rfl⟩ := mx_ix_t c1
    have nk1 : mx_n (nI k1) = k1 := mx_n_nI (by omega)
    refine ri_iconst C dX4_reachOf_15 kc_i0 ?_
    refine ri_istore_n C dX4_reachOf_16 rfl (by decide) ?_
    have LP : ∀ (wk i : Nat) (τ : kx_H), i ≤ 192 → 192 < i + wk → τ = kx_up s7 (1, 26) (ad 25, kx_ai G 192 (fun k => if k < i then mx_o (mx_told u (k / 12) (k % 12)) else T k)) → kx_V G l p e (kx_rm 9 0 0) s m args below meth c 4 Q 17 [(0, .ref mo), (1, .int (nI k1)), (2, .int (nI i))] [] τ 0 0 := by
      intro wk
      induction wk with
      | zero => intro i τ h1 h2; exact absurd h2 (by omega)
      | succ wk ih =>
        intro i τ hi hwk hI
        refine ri_iload_n C dX4_reachOf_17 rfl ?_
        refine ri_sipush C dX4_reachOf_18 kc_s192 ?_
        first | refine ri_icmp_geN C 48 dX4_reachOf_21 rfl (by omega) (by omega) (fun h21 => ?_) (fun h21 => ?_) | refine ri_icmp_ge C 48 dX4_reachOf_21 rfl (fun h21 => ?_) (fun h21 => ?_)
        · obtain rfl : i = 192 := by omega
          first | refine ri_aload_n C dX4_reachOf_48 rfl ?_ | refine ri_aload_nQ C dX4_reachOf_48 rfl ?_ | refine ri_aload_nN C dX4_reachOf_48 rfl ?_
          refine ri_callV C km_X4_goesAside q3442 qs123 dX4_reachOf_49 (mt_X4_goesAside htr (by first | assumption | (repeat (first | assumption | exact kx_rs (by assumption) | exact kx_ne2 (by omega) | exact kx_ne1 (by omega) | refine kx_ro (by assumption) ?_ ?_ | exact kx_rs rfl | refine kx_ro rfl ?_ ?_))) (by first | assumption | (repeat (first | assumption | exact kx_rs (by assumption) | exact kx_ne2 (by omega) | exact kx_ne1 (by omega) | refine kx_ro (by assumption) ?_ ?_ | exact kx_rs rfl | refine kx_ro rfl ?_ ?_))) (by first | assumption | (repeat (first | assumption | exact kx_rs (by assumption) | exact kx_ne2 (by omega) | exact kx_ne1 (by omega) | refine kx_ro (by assumption) ?_ ?_ | exact kx_rs rfl | refine kx_ro rfl ?_ ?_)))) rfl rfl (kx_rcN C (by first | assumption | (repeat (first | assumption | exact kx_rs (by assumption) | exact kx_ne2 (by omega) | exact kx_ne1 (by omega) | refine kx_ro (by assumption) ?_ ?_ | exact kx_rs rfl | refine kx_ro rfl ?_ ?_))) rfl) ⟨⟨(Nat.le_of_ble_eq_true rfl), (Nat.le_of_ble_eq_true rfl)⟩, (Nat.le_of_ble_eq_true rfl), (Nat.le_of_ble_eq_true rfl), (Nat.le_of_ble_eq_true rfl)⟩ (fun v49 s49 h49 => ?_) (fun _ _ _ h => h.elim)
          obtain ⟨rfl, e49⟩ := h49
          first | refine ri_aload_n C dX4_reachOf_52 rfl ?_ | refine ri_aload_nQ C dX4_reachOf_52 rfl ?_ | refine ri_aload_nN C dX4_reachOf_52 rfl ?_
          refine ri_iload_n C dX4_reachOf_53 rfl ?_
          refine ri_bipush C dX4_reachOf_54 kc_b9 ?_
          refine ri_iconst C dX4_reachOf_56 kc_i1 ?_
          refine ri_callV C km_X4_puts q2966 qs59 dX4_reachOf_57 (mt_X4_puts htr (by first | assumption | (repeat (first | assumption | exact kx_rs (by assumption) | exact kx_ne2 (by omega) | exact kx_ne1 (by omega) | refine kx_ro (by assumption) ?_ ?_ | exact kx_rs rfl | refine kx_ro rfl ?_ ?_))) (by first | assumption | (repeat (first | assumption | exact kx_rs (by assumption) | exact kx_ne2 (by omega) | exact kx_ne1 (by omega) | refine kx_ro (by assumption) ?_ ?_ | exact kx_rs rfl | refine kx_ro rfl ?_ ?_))) (by omega)) rfl rfl (kx_rcN C (by first | assumption | (repeat (first | assumption | exact kx_rs (by assumption) | exact kx_ne2 (by omega) | exact kx_ne1 (by omega) | refine kx_ro (by assumption) ?_ ?_ | exact kx_rs rfl | refine kx_ro rfl ?_ ?_))) rfl) ⟨⟨(Nat.le_of_ble_eq_true rfl), (Nat.le_of_ble_eq_true rfl)⟩, (Nat.le_of_ble_eq_true rfl), (Nat.le_of_ble_eq_true rfl), (Nat.le_of_ble_eq_true rfl)⟩ (fun v57 s57 h57 => ?_) (fun _ _ _ h => h.elim)
          obtain ⟨rfl, e57⟩ := h57
          refine ri_iconst C dX4_reachOf_60 kc_i0 ?_
          refine ri_istore_n C dX4_reachOf_61 rfl (by decide) ?_
          refine ri_iconst C dX4_reachOf_62 kc_i0 ?_
          refine ri_istore_n C dX4_reachOf_63 rfl (by decide) ?_
          have LR : ∀ (wk i : Nat) , i ≤ 192 → 192 < i + wk → kx_V G l p e (kx_rm 9 0 0) s m args below meth c 4 Q 64 [(0, .ref mo), (1, .int (nI k1)), (2, .int (nI (mx_cnt (mx_rc u k1) i))), (3, .int (nI i))] [] s57 0 0 := by
            intro wk
            induction wk with
            | zero => intro i  h1 h2; exact absurd h2 (by omega)
            | succ wk ih =>
              intro i  hi hwk 
              have hup := mx_ok_p9 (n := k1) hu
              refine ri_iload_n C dX4_reachOf_64 rfl ?_
              refine ri_sipush C dX4_reachOf_65 kc_s192 ?_
              first | refine ri_icmp_geN C 109 dX4_reachOf_68 rfl (by omega) (by omega) (fun h68 => ?_) (fun h68 => ?_) | refine ri_icmp_ge C 109 dX4_reachOf_68 rfl (fun h68 => ?_) (fun h68 => ?_)
              · obtain rfl : i = 192 := by omega
                first | refine ri_aload_n C dX4_reachOf_109 rfl ?_ | refine ri_aload_nQ C dX4_reachOf_109 rfl ?_ | refine ri_aload_nN C dX4_reachOf_109 rfl ?_
                refine ri_iload_n C dX4_reachOf_110 rfl ?_
                refine ri_callV C km_X4_goesBack q3446 qs124 dX4_reachOf_111 (mt_X4_goesBack htr (q := u) (by first | assumption | (repeat (first | assumption | exact kx_rs (by assumption) | exact kx_ne2 (by omega) | exact kx_ne1 (by omega) | refine kx_ro (by assumption) ?_ ?_ | exact kx_rs rfl | refine kx_ro rfl ?_ ?_))) (by first | assumption | (repeat (first | assumption | exact kx_rs (by assumption) | exact kx_ne2 (by omega) | exact kx_ne1 (by omega) | refine kx_ro (by assumption) ?_ ?_ | exact kx_rs rfl | refine kx_ro rfl ?_ ?_))) (by first | assumption | (repeat (first | assumption | exact kx_rs (by assumption) | exact kx_ne2 (by omega) | exact kx_ne1 (by omega) | refine kx_ro (by assumption) ?_ ?_ | exact kx_rs rfl | refine kx_ro rfl ?_ ?_))) (by intro j hj; exact mx_cut_r j hj)) rfl rfl (kx_rcN C (by first | assumption | (repeat (first | assumption | exact kx_rs (by assumption) | exact kx_ne2 (by omega) | exact kx_ne1 (by omega) | refine kx_ro (by assumption) ?_ ?_ | exact kx_rs rfl | refine kx_ro rfl ?_ ?_))) rfl) ⟨⟨(Nat.le_of_ble_eq_true rfl), (Nat.le_of_ble_eq_true rfl)⟩, (Nat.le_of_ble_eq_true rfl), (Nat.le_of_ble_eq_true rfl), (Nat.le_of_ble_eq_true rfl)⟩ (fun v111 s111 h111 => ?_) (fun _ _ _ h => h.elim)
                obtain ⟨rfl, e111⟩ := h111
                exact ri_iret C hQ dX4_reachOf_114 rfl (Nat.le_of_ble_eq_true rfl) (Nat.le_of_ble_eq_true rfl) (by simp only [an_reachOf, an_c, c1, cond_true, nk1]; exact ⟨by first | rfl | trivial, _, _, by rw [e111, mx_cut_i (u := u) (Z := mx_pp u k1 9 1) (fun j hj => mx_s_o (by omega)), e57, e49, kx_up_b (kx_ro hI (by first | assumption | exact kx_ro e2 hw (by decide)) (by decide)) (by decide), hI, e2, kx_up_c (by decide)]⟩)
              · refine ri_iload_n C dX4_reachOf_71 rfl ?_
                first | refine ri_aload_n C dX4_reachOf_72 rfl ?_ | refine ri_aload_nQ C dX4_reachOf_72 rfl ?_ | refine ri_aload_nN C dX4_reachOf_72 rfl ?_
                refine ri_iload_n C dX4_reachOf_73 rfl ?_
                refine ri_bipush C dX4_reachOf_74 kc_b12 ?_
                first | refine ri_idivN C dX4_reachOf_76 (by omega) (by omega) (by omega) ?_ | refine ri_idiv C dX4_reachOf_76 (by decide) ?_
                refine ri_iload_n C dX4_reachOf_77 rfl ?_
                refine ri_bipush C dX4_reachOf_78 kc_b12 ?_
                first | refine ri_iremN C dX4_reachOf_80 (by omega) (by omega) (by omega) ?_ | refine ri_irem C dX4_reachOf_80 (by decide) ?_
                refine ri_callV C km_X4_toldAt q3213 qs90 dX4_reachOf_81 (mt_X4_toldAt htr (by first | assumption | (repeat (first | assumption | exact kx_rs (by assumption) | exact kx_ne2 (by omega) | exact kx_ne1 (by omega) | refine kx_ro (by assumption) ?_ ?_ | exact kx_rs rfl | refine kx_ro rfl ?_ ?_))) (by first | assumption | (repeat (first | assumption | exact kx_rs (by assumption) | exact kx_ne2 (by omega) | exact kx_ne1 (by omega) | refine kx_ro (by assumption) ?_ ?_ | exact kx_rs rfl | refine kx_ro rfl ?_ ?_))) hup (by omega) (by omega)) rfl rfl (kx_rcN C (by first | assumption | (repeat (first | assumption | exact kx_rs (by assumption) | exact kx_ne2 (by omega) | exact kx_ne1 (by omega) | refine kx_ro (by assumption) ?_ ?_ | exact kx_rs rfl | refine kx_ro rfl ?_ ?_))) rfl) ⟨⟨(Nat.le_of_ble_eq_true rfl), (Nat.le_of_ble_eq_true rfl)⟩, (Nat.le_of_ble_eq_true rfl), (Nat.le_of_ble_eq_true rfl), (Nat.le_of_ble_eq_true rfl)⟩ (fun v81 s81 h81 => ?_) (fun _ _ _ h => h.elim)
                obtain ⟨rfl, rfl⟩ := h81
                first | refine ri_aload_n C dX4_reachOf_84 rfl ?_ | refine ri_aload_nQ C dX4_reachOf_84 rfl ?_ | refine ri_aload_nN C dX4_reachOf_84 rfl ?_
                refine ri_getf C dX4_reachOf_85 fr_q2995_3 (by first | assumption | (repeat (first | assumption | exact kx_rs (by assumption) | exact kx_ne2 (by omega) | exact kx_ne1 (by omega) | refine kx_ro (by assumption) ?_ ?_ | exact kx_rs rfl | refine kx_ro rfl ?_ ?_))) (by rfl) ?_
                refine ri_iload_n C dX4_reachOf_88 rfl ?_
                refine ri_iaload C dX4_reachOf_89 (by first | assumption | (repeat (first | assumption | exact kx_rs (by assumption) | exact kx_ne2 (by omega) | exact kx_ne1 (by omega) | refine kx_ro (by assumption) ?_ ?_ | exact kx_rs rfl | refine kx_ro rfl ?_ ?_))) rfl (by omega) ?_
                rw [if_pos (show i < 192 by omega)]
                refine ri_icmp_eq C 97 dX4_reachOf_90 rfl (fun h90 => ?_) (fun h90 => ?_)
                · have htl : ∀ a, mx_told u (i / 12) (i % 12) = some a → a < 5 := fun a => mx_told_b
                  have htm : ∀ a, mx_told (mx_pp u k1 9 1) (i / 12) (i % 12) = some a → a < 5 := fun a => mx_told_b
                  have h90 : mx_told (mx_pp u k1 9 1) (i / 12) (i % 12) = mx_told u (i / 12) (i % 12) := mx_o_inj htm htl h90
                  refine ri_iconst C dX4_reachOf_97 kc_i0 ?_
                  refine ri_callS C km_X4_one q3247 dX4_reachOf_98 (mt_X4_one htr (b := false)) rfl rfl ⟨⟨(Nat.le_of_ble_eq_true rfl), (Nat.le_of_ble_eq_true rfl)⟩, (Nat.le_of_ble_eq_true rfl), (Nat.le_of_ble_eq_true rfl), (Nat.le_of_ble_eq_true rfl)⟩ (fun v98 s98 h98 => ?_) (fun _ _ _ h => h.elim)
                  obtain ⟨rfl, rfl⟩ := h98
                  first | refine ri_iaddN C dX4_reachOf_101 ?_ | refine ri_iadd C dX4_reachOf_101 ?_
                  refine ri_istore_n C dX4_reachOf_102 rfl (by decide) ?_
                  first | refine ri_iincN C dX4_reachOf_103 rfl rfl (by decide) ?_ | refine ri_iinc C dX4_reachOf_103 rfl rfl rfl (by decide) ?_
                  refine ri_goto C 64 dX4_reachOf_106 rfl ?_
                  refine ri_lv2 (ih (i + 1) (by omega) (by omega)) ⟨rfl, rfl, ?_, rfl, trivial⟩
                  first
                    | (rw [mx_cnt_t (by unfold mx_rc; simp [h90])]; rfl)
                    | (rw [mx_cnt_f (by unfold mx_rc; simp [h90])]; rfl)
                · have h90 : ¬ mx_told (mx_pp u k1 9 1) (i / 12) (i % 12) = mx_told u (i / 12) (i % 12) := fun e => h90 (by rw [e])
                  refine ri_iconst C dX4_reachOf_93 kc_i1 ?_
                  refine ri_goto C 98 dX4_reachOf_94 rfl ?_
                  refine ri_callS C km_X4_one q3247 dX4_reachOf_98 (mt_X4_one htr (b := true)) rfl rfl ⟨⟨(Nat.le_of_ble_eq_true rfl), (Nat.le_of_ble_eq_true rfl)⟩, (Nat.le_of_ble_eq_true rfl), (Nat.le_of_ble_eq_true rfl), (Nat.le_of_ble_eq_true rfl)⟩ (fun v98 s98 h98 => ?_) (fun _ _ _ h => h.elim)
                  obtain ⟨rfl, rfl⟩ := h98
                  first | refine ri_iaddN C dX4_reachOf_101 ?_ | refine ri_iadd C dX4_reachOf_101 ?_
                  refine ri_istore_n C dX4_reachOf_102 rfl (by decide) ?_
                  first | refine ri_iincN C dX4_reachOf_103 rfl rfl (by decide) ?_ | refine ri_iinc C dX4_reachOf_103 rfl rfl rfl (by decide) ?_
                  refine ri_goto C 64 dX4_reachOf_106 rfl ?_
                  refine ri_lv2 (ih (i + 1) (by omega) (by omega)) ⟨rfl, rfl, ?_, rfl, trivial⟩
                  first
                    | (rw [mx_cnt_t (by unfold mx_rc; simp [h90])]; rfl)
                    | (rw [mx_cnt_f (by unfold mx_rc; simp [h90])]; rfl)
          have hup := mx_ok_p9 (n := k1) hu
          exact ri_lv2 (LR 193 0 (by omega) (by omega)) ⟨rfl, rfl, rfl, rfl, trivial⟩
        · first | refine ri_aload_n C dX4_reachOf_24 rfl ?_ | refine ri_aload_nQ C dX4_reachOf_24 rfl ?_ | refine ri_aload_nN C dX4_reachOf_24 rfl ?_
          refine ri_getf C dX4_reachOf_25 fr_q2995_3 (by first | assumption | (repeat (first | assumption | exact kx_rs (by assumption) | exact kx_ne2 (by omega) | exact kx_ne1 (by omega) | refine kx_ro (by assumption) ?_ ?_ | exact kx_rs rfl | refine kx_ro rfl ?_ ?_))) (by rfl) ?_
          refine ri_iload_n C dX4_reachOf_28 rfl ?_
          first | refine ri_aload_n C dX4_reachOf_29 rfl ?_ | refine ri_aload_nQ C dX4_reachOf_29 rfl ?_ | refine ri_aload_nN C dX4_reachOf_29 rfl ?_
          refine ri_iload_n C dX4_reachOf_30 rfl ?_
          refine ri_bipush C dX4_reachOf_31 kc_b12 ?_
          first | refine ri_idivN C dX4_reachOf_33 (by omega) (by omega) (by omega) ?_ | refine ri_idiv C dX4_reachOf_33 (by decide) ?_
          refine ri_iload_n C dX4_reachOf_34 rfl ?_
          refine ri_bipush C dX4_reachOf_35 kc_b12 ?_
          first | refine ri_iremN C dX4_reachOf_37 (by omega) (by omega) (by omega) ?_ | refine ri_irem C dX4_reachOf_37 (by decide) ?_
          refine ri_callV C km_X4_toldAt q3213 qs90 dX4_reachOf_38 (mt_X4_toldAt htr (by first | assumption | (repeat (first | assumption | exact kx_rs (by assumption) | exact kx_ne2 (by omega) | exact kx_ne1 (by omega) | refine kx_ro (by assumption) ?_ ?_ | exact kx_rs rfl | refine kx_ro rfl ?_ ?_))) (by first | assumption | (repeat (first | assumption | exact kx_rs (by assumption) | exact kx_ne2 (by omega) | exact kx_ne1 (by omega) | refine kx_ro (by assumption) ?_ ?_ | exact kx_rs rfl | refine kx_ro rfl ?_ ?_))) hu (by omega) (by omega)) rfl rfl (kx_rcN C (by first | assumption | (repeat (first | assumption | exact kx_rs (by assumption) | exact kx_ne2 (by omega) | exact kx_ne1 (by omega) | refine kx_ro (by assumption) ?_ ?_ | exact kx_rs rfl | refine kx_ro rfl ?_ ?_))) rfl) ⟨⟨(Nat.le_of_ble_eq_true rfl), (Nat.le_of_ble_eq_true rfl)⟩, (Nat.le_of_ble_eq_true rfl), (Nat.le_of_ble_eq_true rfl), (Nat.le_of_ble_eq_true rfl)⟩ (fun v38 s38 h38 => ?_) (fun _ _ _ h => h.elim)
          obtain ⟨rfl, rfl⟩ := h38
          refine ri_iastore C dX4_reachOf_41 (by first | assumption | (repeat (first | assumption | exact kx_rs (by assumption) | exact kx_ne2 (by omega) | exact kx_ne1 (by omega) | refine kx_ro (by assumption) ?_ ?_ | exact kx_rs rfl | refine kx_ro rfl ?_ ?_))) rfl (by omega) (fun s41 e41 => ?_)
          first | refine ri_iincN C dX4_reachOf_42 rfl rfl (by decide) ?_ | refine ri_iinc C dX4_reachOf_42 rfl rfl rfl (by decide) ?_
          refine ri_goto C 17 dX4_reachOf_45 rfl ?_
          refine ri_lv2 (ih (i + 1) _ (by omega) (by omega) ?_) ⟨rfl, rfl, rfl, trivial⟩
          rw [e41, hI, kx_up_u]
          refine congrArg (fun f => kx_up s7 (1, 26) (ad 25, kx_ai G 192 f)) ?_
          funext j
          simp only [upd]
          by_cases c : j = i
          · subst c; rw [if_pos rfl, if_pos (by omega)]
          · rw [if_neg c]
            by_cases d : j < i
            · rw [if_pos d, if_pos (by omega)]
            · rw [if_neg d, if_neg (by omega)]
    refine ri_lv2 (LP 193 0 _ (by omega) (by omega) ?_) ⟨rfl, rfl, rfl, trivial⟩
    simp only [Nat.not_lt_zero, if_false]; exact (kx_up_i (by first | assumption | exact kx_ro e2 ht (by decide))).symm
  · have c1 : mx_ix x (u 0) = false := kx_bn_t h10
    rw [c1, cond_false] at e7
    refine ri_iconst C dX4_reachOf_13 kc_i0 ?_
    exact ri_iret C hQ dX4_reachOf_14 rfl (Nat.le_of_ble_eq_true rfl) (Nat.le_of_ble_eq_true rfl) (by refine ⟨by simp only [an_reachOf, an_c, *, cond_true, cond_false] <;> rfl, A, T, ?_⟩; simp only [an_reachOf, an_c, c1, cond_false]; rw [kx_up_i (kx_ro rfl ha (by decide)), kx_up_i (kx_ro rfl ht (by decide)), e7, e2, kx_up_u, mo_z_z])
