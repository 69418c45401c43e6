/-! the reference: output, what was saved -/
set_option maxRecDepth 100000
def mo_W (G : kx_G) (σ : kx_H) (mo : Nat) (ad : Nat → Nat) (z : Nat → Int32) (O : Nat → Int32) (n : Nat) : kx_H := kx_up (kx_up σ (1, 27) (ad 26, kx_ai G 60 O)) (1, 0) (mo, .inr (3, mo_L ad (mo_z z 27 (nI n))))
theorem mo_W_W {G : kx_G} {σ : kx_H} {mo : Nat} {ad : Nat → Nat} {z : Nat → Int32} {O O' : Nat → Int32} {n n' : Nat} : kx_up (kx_up (mo_W G σ mo ad z O n) (1, 27) (ad 26, kx_ai G 60 O')) (1, 0) (mo, .inr (3, mo_L ad (mo_z (mo_z z 27 (nI n)) 27 (nI n')))) = mo_W G σ mo ad z O' n' := by
  unfold mo_W; rw [kx_up_x, mo_z_z]
theorem mo_W_o {G : kx_G} {σ : kx_H} {mo : Nat} {ad : Nat → Nat} {z : Nat → Int32} {O : Nat → Int32} {n k : Nat} {x : Nat × va_E} (h : σ (1, k) = some x) (h1 : k ≠ 0) (h2 : k ≠ 27) : mo_W G σ mo ad z O n (1, k) = some x := by
  unfold mo_W; rw [kx_up_o (kx_ne2 h1), kx_up_o (kx_ne2 h2)]; exact h
theorem mo_W_0 {G : kx_G} {σ : kx_H} {mo : Nat} {ad : Nat → Nat} {z : Nat → Int32} {O : Nat → Int32} {n : Nat} : mo_W G σ mo ad z O n (1, 0) = some (mo, .inr (3, mo_L ad (mo_z z 27 (nI n)))) := kx_up_s
theorem mo_W_26 {G : kx_G} {σ : kx_H} {mo : Nat} {ad : Nat → Nat} {z : Nat → Int32} {O : Nat → Int32} {n : Nat} : mo_W G σ mo ad z O n (1, 27) = some (ad 26, kx_ai G 60 O) := by
  unfold mo_W; rw [kx_up_o (by decide)]; exact kx_up_s
theorem mo_W_0e {G : kx_G} {σ τ : kx_H} {mo : Nat} {ad : Nat → Nat} {z : Nat → Int32} {O : Nat → Int32} {n : Nat} (e : τ = mo_W G σ mo ad z O n) : τ (1, 0) = some (mo, .inr (3, mo_L ad (mo_z z 27 (nI n)))) := by rw [e]; exact mo_W_0
theorem mo_W_oe {G : kx_G} {σ τ : kx_H} {mo : Nat} {ad : Nat → Nat} {z : Nat → Int32} {O : Nat → Int32} {n k : Nat} {x : Nat × va_E} (e : τ = mo_W G σ mo ad z O n) (h : σ (1, k) = some x) (h1 : k ≠ 0) (h2 : k ≠ 27) : τ (1, k) = some x := by rw [e]; exact mo_W_o h h1 h2
def mo_wr (O : Nat → Int32) (n : Nat) : List Nat → Nat → Int32
  | [] => O
  | x :: r => mo_wr (upd O n (nI x)) (n + 1) r
theorem mo_wr_a {a b : List Nat} : ∀ {O : Nat → Int32} {n : Nat}, mo_wr O n (a ++ b) = mo_wr (mo_wr O n a) (n + a.length) b := by
  induction a with
  | nil => intro O n; rfl
  | cons x a ih => intro O n; rw [List.cons_append, mo_wr, ih, mo_wr, List.length_cons]; congr 1; omega
theorem mo_W_w {G : kx_G} {σ τ : kx_H} {mo : Nat} {ad : Nat → Nat} {z : Nat → Int32} {O : Nat → Int32} {l : List Nat} {x : Nat} (e : τ = mo_W G σ mo ad z (upd (mo_wr O 0 l) l.length (nI x)) (l.length + 1)) : τ = mo_W G σ mo ad z (mo_wr O 0 (l ++ [x])) (l ++ [x]).length := by
  rw [e, mo_wr_a, Nat.zero_add, List.length_append]; rfl
theorem mo_W_n {G : kx_G} {σ τ : kx_H} {mo : Nat} {ad : Nat → Nat} {z : Nat → Int32} {O : Nat → Int32} {l d : List Nat} (e : τ = mo_W G σ mo ad z (mo_wr (mo_wr O 0 l) l.length d) (l.length + d.length)) : τ = mo_W G σ mo ad z (mo_wr O 0 (l ++ d)) (l ++ d).length := by
  rw [e, mo_wr_a, Nat.zero_add, List.length_append]
def pr_d (v : Nat) : List Nat := ((if 99 < v then [48 + v / 100] else []) ++ (if 9 < v then [48 + v / 10 % 10] else [])) ++ [48 + v % 10]
theorem pr_d_l {v : Nat} : (pr_d v).length ≤ 3 := by
  unfold pr_d
  split <;> split <;> simp
def pr_c (u : Nat → Nat) (mo x : Nat) : Nat := match mx_told u x mo with
  | none => 46
  | some b => 48 + b
def pr_m (u : Nat → Nat) (mo n : Nat) : List Nat := (List.range n).map (pr_c u mo)
theorem pr_m_s {u : Nat → Nat} {mo n : Nat} : pr_m u mo (n + 1) = pr_m u mo n ++ [pr_c u mo n] := by unfold pr_m; rw [List.range_succ, List.map_append]; rfl
theorem pr_m_l {u : Nat → Nat} {mo n : Nat} : (pr_m u mo n).length = n := by unfold pr_m; simp
def pr_p (u : Nat → Nat) (k : Nat) : List Nat := (((((((((((([] ++ pr_d (mx_p u k 0)) ++ [45]) ++ pr_d (mx_p u k 1)) ++ [64]) ++ pr_d (mx_p u k 2)) ++ [45]) ++ pr_d (mx_p u k 3)) ++ [62]) ++ pr_d (mx_p u k 4)) ++ [61]) ++ pr_d (mx_p u k 6)) ++ (if mx_live u k then [] else [120]))
def an_prM (u : Nat → Nat) (x : Int32) : Nat × Int32 := an_c (mx_ix (nI 0) 16 && mx_ix x 12) 1 (0, nI 16)
def an_prP (u : Nat → Nat) (x : Int32) : Nat × Int32 := an_c (mx_ix x (u 0)) 1 (0, nI (pr_p u (mx_n x)).length)
def an_ob (O : Nat → Int32) (n : Nat) (x : Int32) : Int32 := bif mx_ix x n then O (mx_n x) else -1
set_option maxHeartbeats 1000000 in
theorem mt_X4_write {l : Launch} {G : kx_G} (htr : l.stackTraces = false) {σ : kx_H} {mo : Nat} {ad : Nat → Nat} {z : Nat → Int32} {x : Int32} {σ0 : kx_H} {O : Nat → Int32} {n : Nat} (e0 : σ = mo_W G σ0 mo ad z O n) (hn : n < 60) : kx_SP l G yX4_write (ws_ yX4_write cX4_write 2 none) 1 0 0 [.ref mo, .int x] σ (fun v τ => v = none ∧ τ = mo_W G σ0 mo ad z (upd O n x) (n + 1)) kx_nx := by
  refine kx_body htr (by decide +kernel) (own := "RoseProverbsModel") (nm := "write") rfl rfl (Nat.le_of_ble_eq_true rfl) ?_
  intro p e s m args below meth c Q C hQ
  have h0 := mo_W_0 (G := G) (σ := σ0) (mo := mo) (ad := ad) (z := z) (O := O) (n := n)
  have h1 := mo_W_26 (G := G) (σ := σ0) (mo := mo) (ad := ad) (z := z) (O := O) (n := n)
  rw [← e0] at h0 h1
  first | refine ri_aload_n C dX4_write_0 rfl ?_ | refine ri_aload_nQ C dX4_write_0 rfl ?_ | refine ri_aload_nN C dX4_write_0 rfl ?_
  refine ri_getf C dX4_write_1 fr_q2996_3 (by first | assumption | (repeat (first | assumption | exact kx_rs (by assumption) | exact kx_ne2 (by omega) | exact kx_ne1 (by omega) | refine kx_ro (by assumption) ?_ ?_ | exact kx_rs rfl | refine kx_ro rfl ?_ ?_))) (by rfl) ?_
  first | refine ri_aload_n C dX4_write_4 rfl ?_ | refine ri_aload_nQ C dX4_write_4 rfl ?_ | refine ri_aload_nN C dX4_write_4 rfl ?_
  refine ri_getf C dX4_write_5 fr_q2997_3 (by first | assumption | (repeat (first | assumption | exact kx_rs (by assumption) | exact kx_ne2 (by omega) | exact kx_ne1 (by omega) | refine kx_ro (by assumption) ?_ ?_ | exact kx_rs rfl | refine kx_ro rfl ?_ ?_))) (by rfl) ?_
  rw [mo_z_s]
  refine ri_iload_n C dX4_write_8 rfl ?_
  refine ri_iastore C dX4_write_9 (by first | assumption | (repeat (first | assumption | exact kx_rs (by assumption) | exact kx_ne2 (by omega) | exact kx_ne1 (by omega) | refine kx_ro (by assumption) ?_ ?_ | exact kx_rs rfl | refine kx_ro rfl ?_ ?_))) rfl (by omega) (fun s9 e9 => ?_)
  first | refine ri_aload_n C dX4_write_10 rfl ?_ | refine ri_aload_nQ C dX4_write_10 rfl ?_ | refine ri_aload_nN C dX4_write_10 rfl ?_
  refine ri_dup C dX4_write_11 rfl ?_
  refine ri_getf C dX4_write_12 fr_q2997_3 (by first | assumption | (repeat (first | assumption | exact kx_rs (by assumption) | exact kx_ne2 (by omega) | exact kx_ne1 (by omega) | refine kx_ro (by assumption) ?_ ?_ | exact kx_rs rfl | refine kx_ro rfl ?_ ?_))) (by rfl) ?_
  rw [mo_z_s]
  refine ri_iconst C dX4_write_15 kc_i1 ?_
  first | refine ri_iaddN C dX4_write_16 ?_ | refine ri_iadd C dX4_write_16 ?_
  refine ri_putf C dX4_write_17 fd_q2997_3 (fun h => nomatch h) (by first | assumption | (repeat (first | assumption | exact kx_rs (by assumption) | exact kx_ne2 (by omega) | exact kx_ne1 (by omega) | refine kx_ro (by assumption) ?_ ?_ | exact kx_rs rfl | refine kx_ro rfl ?_ ?_))) (Nat.le_of_ble_eq_true rfl) (by rfl) (by rfl) mo_set27 (fun s17 e17 => ?_)
  exact ri_vret C hQ dX4_write_20 (Nat.le_of_ble_eq_true rfl) (Nat.le_of_ble_eq_true rfl) ⟨rfl, by rw [e17, e9, e0, mo_W_W]⟩
set_option maxHeartbeats 1000000 in
theorem mt_X4_writeNumber {l : Launch} {G : kx_G} (htr : l.stackTraces = false) {σ : kx_H} {mo : Nat} {ad : Nat → Nat} {z : Nat → Int32} {x : Nat} {σ0 : kx_H} {O : Nat → Int32} {n : Nat} (e0 : σ = mo_W G σ0 mo ad z O n) (hn : n < 57) (hx : x < 1000) : kx_SP l G yX4_writeNumber (ws_ yX4_writeNumber cX4_writeNumber 2 none) 2 0 0 [.ref mo, .int (nI x)] σ (fun v τ => v = none ∧ τ = mo_W G σ0 mo ad z (mo_wr O n (pr_d x)) (n + (pr_d x).length)) kx_nx := by
  refine kx_body htr (by decide +kernel) (own := "RoseProverbsModel") (nm := "writeNumber") rfl rfl (Nat.le_of_ble_eq_true rfl) ?_
  intro p e s m args below meth c Q C hQ
  refine ri_iload_n C dX4_writeNumber_0 rfl ?_
  refine ri_bipush C dX4_writeNumber_1 kc_b99 ?_
  first | refine ri_icmp_leN C 17 dX4_writeNumber_3 rfl (by omega) (by omega) (fun h3 => ?_) (fun h3 => ?_) | refine ri_icmp_le C 17 dX4_writeNumber_3 rfl (fun h3 => ?_) (fun h3 => ?_)
  · refine ri_iload_n C dX4_writeNumber_17 rfl ?_
    refine ri_bipush C dX4_writeNumber_18 kc_b9 ?_
    first | refine ri_icmp_leN C 37 dX4_writeNumber_20 rfl (by omega) (by omega) (fun h20 => ?_) (fun h20 => ?_) | refine ri_icmp_le C 37 dX4_writeNumber_20 rfl (fun h20 => ?_) (fun h20 => ?_)
    · first | refine ri_aload_n C dX4_writeNumber_37 rfl ?_ | refine ri_aload_nQ C dX4_writeNumber_37 rfl ?_ | refine ri_aload_nN C dX4_writeNumber_37 rfl ?_
      refine ri_bipush C dX4_writeNumber_38 kc_b48 ?_
      refine ri_iload_n C dX4_writeNumber_40 rfl ?_
      refine ri_bipush C dX4_writeNumber_41 kc_b10 ?_
      first | refine ri_iremN C dX4_writeNumber_43 (by omega) (by omega) (by omega) ?_ | refine ri_irem C dX4_writeNumber_43 (by decide) ?_
      first | refine ri_iaddN C dX4_writeNumber_44 ?_ | refine ri_iadd C dX4_writeNumber_44 ?_
      refine ri_callV C km_X4_write q3534 qs130 dX4_writeNumber_45 (mt_X4_write htr (by assumption) (by omega)) rfl rfl (kx_rcN C (by first | assumption | (repeat (first | assumption | exact kx_rs (by assumption) | exact kx_ne2 (by omega) | exact kx_ne1 (by omega) | refine kx_ro (by assumption) ?_ ?_ | exact kx_rs rfl | refine kx_ro rfl ?_ ?_))) rfl) ⟨⟨(Nat.le_of_ble_eq_true rfl), (Nat.le_of_ble_eq_true rfl)⟩, (Nat.le_of_ble_eq_true rfl), (Nat.le_of_ble_eq_true rfl), (Nat.le_of_ble_eq_true rfl)⟩ (fun v45 s45 h45 => ?_) (fun _ _ _ h => h.elim)
      obtain ⟨rfl, e45⟩ := h45
      exact ri_vret C hQ dX4_writeNumber_48 (Nat.le_of_ble_eq_true rfl) (Nat.le_of_ble_eq_true rfl) ⟨rfl, by first | (exfalso; omega) | (rw [e45]; unfold pr_d; (first | rw [if_pos (show 99 < x by omega)] | rw [if_neg (show ¬ 99 < x by omega)]); (first | rw [if_pos (show 9 < x by omega)] | rw [if_neg (show ¬ 9 < x by omega)]); rfl)⟩
    · first | refine ri_aload_n C dX4_writeNumber_23 rfl ?_ | refine ri_aload_nQ C dX4_writeNumber_23 rfl ?_ | refine ri_aload_nN C dX4_writeNumber_23 rfl ?_
      refine ri_bipush C dX4_writeNumber_24 kc_b48 ?_
      refine ri_iload_n C dX4_writeNumber_26 rfl ?_
      refine ri_bipush C dX4_writeNumber_27 kc_b10 ?_
      first | refine ri_idivN C dX4_writeNumber_29 (by omega) (by omega) (by omega) ?_ | refine ri_idiv C dX4_writeNumber_29 (by decide) ?_
      refine ri_bipush C dX4_writeNumber_30 kc_b10 ?_
      first | refine ri_iremN C dX4_writeNumber_32 (by omega) (by omega) (by omega) ?_ | refine ri_irem C dX4_writeNumber_32 (by decide) ?_
      first | refine ri_iaddN C dX4_writeNumber_33 ?_ | refine ri_iadd C dX4_writeNumber_33 ?_
      refine ri_callV C km_X4_write q3534 qs130 dX4_writeNumber_34 (mt_X4_write htr (by assumption) (by omega)) rfl rfl (kx_rcN C (by first | assumption | (repeat (first | assumption | exact kx_rs (by assumption) | exact kx_ne2 (by omega) | exact kx_ne1 (by omega) | refine kx_ro (by assumption) ?_ ?_ | exact kx_rs rfl | refine kx_ro rfl ?_ ?_))) rfl) ⟨⟨(Nat.le_of_ble_eq_true rfl), (Nat.le_of_ble_eq_true rfl)⟩, (Nat.le_of_ble_eq_true rfl), (Nat.le_of_ble_eq_true rfl), (Nat.le_of_ble_eq_true rfl)⟩ (fun v34 s34 h34 => ?_) (fun _ _ _ h => h.elim)
      obtain ⟨rfl, e34⟩ := h34
      first | refine ri_aload_n C dX4_writeNumber_37 rfl ?_ | refine ri_aload_nQ C dX4_writeNumber_37 rfl ?_ | refine ri_aload_nN C dX4_writeNumber_37 rfl ?_
      refine ri_bipush C dX4_writeNumber_38 kc_b48 ?_
      refine ri_iload_n C dX4_writeNumber_40 rfl ?_
      refine ri_bipush C dX4_writeNumber_41 kc_b10 ?_
      first | refine ri_iremN C dX4_writeNumber_43 (by omega) (by omega) (by omega) ?_ | refine ri_irem C dX4_writeNumber_43 (by decide) ?_
      first | refine ri_iaddN C dX4_writeNumber_44 ?_ | refine ri_iadd C dX4_writeNumber_44 ?_
      refine ri_callV C km_X4_write q3534 qs130 dX4_writeNumber_45 (mt_X4_write htr (by assumption) (by omega)) rfl rfl (kx_rcN C (by first | assumption | (repeat (first | assumption | exact kx_rs (by assumption) | exact kx_ne2 (by omega) | exact kx_ne1 (by omega) | refine kx_ro (by assumption) ?_ ?_ | exact kx_rs rfl | refine kx_ro rfl ?_ ?_))) rfl) ⟨⟨(Nat.le_of_ble_eq_true rfl), (Nat.le_of_ble_eq_true rfl)⟩, (Nat.le_of_ble_eq_true rfl), (Nat.le_of_ble_eq_true rfl), (Nat.le_of_ble_eq_true rfl)⟩ (fun v45 s45 h45 => ?_) (fun _ _ _ h => h.elim)
      obtain ⟨rfl, e45⟩ := h45
      exact ri_vret C hQ dX4_writeNumber_48 (Nat.le_of_ble_eq_true rfl) (Nat.le_of_ble_eq_true rfl) ⟨rfl, by first | (exfalso; omega) | (rw [e45]; unfold pr_d; (first | rw [if_pos (show 99 < x by omega)] | rw [if_neg (show ¬ 99 < x by omega)]); (first | rw [if_pos (show 9 < x by omega)] | rw [if_neg (show ¬ 9 < x by omega)]); rfl)⟩
  · first | refine ri_aload_n C dX4_writeNumber_6 rfl ?_ | refine ri_aload_nQ C dX4_writeNumber_6 rfl ?_ | refine ri_aload_nN C dX4_writeNumber_6 rfl ?_
    refine ri_bipush C dX4_writeNumber_7 kc_b48 ?_
    refine ri_iload_n C dX4_writeNumber_9 rfl ?_
    refine ri_bipush C dX4_writeNumber_10 kc_b100 ?_
    first | refine ri_idivN C dX4_writeNumber_12 (by omega) (by omega) (by omega) ?_ | refine ri_idiv C dX4_writeNumber_12 (by decide) ?_
    first | refine ri_iaddN C dX4_writeNumber_13 ?_ | refine ri_iadd C dX4_writeNumber_13 ?_
    refine ri_callV C km_X4_write q3534 qs130 dX4_writeNumber_14 (mt_X4_write htr e0 (by omega)) rfl rfl (kx_rcN C (by first | assumption | (repeat (first | assumption | exact kx_rs (by assumption) | exact kx_ne2 (by omega) | exact kx_ne1 (by omega) | refine kx_ro (by assumption) ?_ ?_ | exact kx_rs rfl | refine kx_ro rfl ?_ ?_))) rfl) ⟨⟨(Nat.le_of_ble_eq_true rfl), (Nat.le_of_ble_eq_true rfl)⟩, (Nat.le_of_ble_eq_true rfl), (Nat.le_of_ble_eq_true rfl), (Nat.le_of_ble_eq_true rfl)⟩ (fun v14 s14 h14 => ?_) (fun _ _ _ h => h.elim)
    obtain ⟨rfl, e14⟩ := h14
    refine ri_iload_n C dX4_writeNumber_17 rfl ?_
    refine ri_bipush C dX4_writeNumber_18 kc_b9 ?_
    first | refine ri_icmp_leN C 37 dX4_writeNumber_20 rfl (by omega) (by omega) (fun h20 => ?_) (fun h20 => ?_) | refine ri_icmp_le C 37 dX4_writeNumber_20 rfl (fun h20 => ?_) (fun h20 => ?_)
    · first | refine ri_aload_n C dX4_writeNumber_37 rfl ?_ | refine ri_aload_nQ C dX4_writeNumber_37 rfl ?_ | refine ri_aload_nN C dX4_writeNumber_37 rfl ?_
      refine ri_bipush C dX4_writeNumber_38 kc_b48 ?_
      refine ri_iload_n C dX4_writeNumber_40 rfl ?_
      refine ri_bipush C dX4_writeNumber_41 kc_b10 ?_
      first | refine ri_iremN C dX4_writeNumber_43 (by omega) (by omega) (by omega) ?_ | refine ri_irem C dX4_writeNumber_43 (by decide) ?_
      first | refine ri_iaddN C dX4_writeNumber_44 ?_ | refine ri_iadd C dX4_writeNumber_44 ?_
      refine ri_callV C km_X4_write q3534 qs130 dX4_writeNumber_45 (mt_X4_write htr (by assumption) (by omega)) rfl rfl (kx_rcN C (by first | assumption | (repeat (first | assumption | exact kx_rs (by assumption) | exact kx_ne2 (by omega) | exact kx_ne1 (by omega) | refine kx_ro (by assumption) ?_ ?_ | exact kx_rs rfl | refine kx_ro rfl ?_ ?_))) rfl) ⟨⟨(Nat.le_of_ble_eq_true rfl), (Nat.le_of_ble_eq_true rfl)⟩, (Nat.le_of_ble_eq_true rfl), (Nat.le_of_ble_eq_true rfl), (Nat.le_of_ble_eq_true rfl)⟩ (fun v45 s45 h45 => ?_) (fun _ _ _ h => h.elim)
      obtain ⟨rfl, e45⟩ := h45
      exact ri_vret C hQ dX4_writeNumber_48 (Nat.le_of_ble_eq_true rfl) (Nat.le_of_ble_eq_true rfl) ⟨rfl, by first | (exfalso; omega) | (rw [e45]; unfold pr_d; (first | rw [if_pos (show 99 < x by omega)] | rw [if_neg (show ¬ 99 < x by omega)]); (first | rw [if_pos (show 9 < x by omega)] | rw [if_neg (show ¬ 9 < x by omega)]); rfl)⟩
    · first | refine ri_aload_n C dX4_writeNumber_23 rfl ?_ | refine ri_aload_nQ C dX4_writeNumber_23 rfl ?_ | refine ri_aload_nN C dX4_writeNumber_23 rfl ?_
      refine ri_bipush C dX4_writeNumber_24 kc_b48 ?_
      refine ri_iload_n C dX4_writeNumber_26 rfl ?_
      refine ri_bipush C dX4_writeNumber_27 kc_b10 ?_
      first | refine ri_idivN C dX4_writeNumber_29 (by omega) (by omega) (by omega) ?_ | refine ri_idiv C dX4_writeNumber_29 (by decide) ?_
      refine ri_bipush C dX4_writeNumber_30 kc_b10 ?_
      first | refine ri_iremN C dX4_writeNumber_32 (by omega) (by omega) (by omega) ?_ | refine ri_irem C dX4_writeNumber_32 (by decide) ?_
      first | refine ri_iaddN C dX4_writeNumber_33 ?_ | refine ri_iadd C dX4_writeNumber_33 ?_
      refine ri_callV C km_X4_write q3534 qs130 dX4_writeNumber_34 (mt_X4_write htr (by assumption) (by omega)) rfl rfl (kx_rcN C (by first | assumption | (repeat (first | assumption | exact kx_rs (by assumption) | exact kx_ne2 (by omega) | exact kx_ne1 (by omega) | refine kx_ro (by assumption) ?_ ?_ | exact kx_rs rfl | refine kx_ro rfl ?_ ?_))) rfl) ⟨⟨(Nat.le_of_ble_eq_true rfl), (Nat.le_of_ble_eq_true rfl)⟩, (Nat.le_of_ble_eq_true rfl), (Nat.le_of_ble_eq_true rfl), (Nat.le_of_ble_eq_true rfl)⟩ (fun v34 s34 h34 => ?_) (fun _ _ _ h => h.elim)
      obtain ⟨rfl, e34⟩ := h34
      first | refine ri_aload_n C dX4_writeNumber_37 rfl ?_ | refine ri_aload_nQ C dX4_writeNumber_37 rfl ?_ | refine ri_aload_nN C dX4_writeNumber_37 rfl ?_
      refine ri_bipush C dX4_writeNumber_38 kc_b48 ?_
      refine ri_iload_n C dX4_writeNumber_40 rfl ?_
      refine ri_bipush C dX4_writeNumber_41 kc_b10 ?_
      first | refine ri_iremN C dX4_writeNumber_43 (by omega) (by omega) (by omega) ?_ | refine ri_irem C dX4_writeNumber_43 (by decide) ?_
      first | refine ri_iaddN C dX4_writeNumber_44 ?_ | refine ri_iadd C dX4_writeNumber_44 ?_
      refine ri_callV C km_X4_write q3534 qs130 dX4_writeNumber_45 (mt_X4_write htr (by assumption) (by omega)) rfl rfl (kx_rcN C (by first | assumption | (repeat (first | assumption | exact kx_rs (by assumption) | exact kx_ne2 (by omega) | exact kx_ne1 (by omega) | refine kx_ro (by assumption) ?_ ?_ | exact kx_rs rfl | refine kx_ro rfl ?_ ?_))) rfl) ⟨⟨(Nat.le_of_ble_eq_true rfl), (Nat.le_of_ble_eq_true rfl)⟩, (Nat.le_of_ble_eq_true rfl), (Nat.le_of_ble_eq_true rfl), (Nat.le_of_ble_eq_true rfl)⟩ (fun v45 s45 h45 => ?_) (fun _ _ _ h => h.elim)
      obtain ⟨rfl, e45⟩ := h45
      exact ri_vret C hQ dX4_writeNumber_48 (Nat.le_of_ble_eq_true rfl) (Nat.le_of_ble_eq_true rfl) ⟨rfl, by first | (exfalso; omega) | (rw [e45]; unfold pr_d; (first | rw [if_pos (show 99 < x by omega)] | rw [if_neg (show ¬ 99 < x by omega)]); (first | rw [if_pos (show 9 < x by omega)] | rw [if_neg (show ¬ 9 < x by omega)]); rfl)⟩
set_option maxHeartbeats 1000000 in
theorem mt_X4_printMonth {l : Launch} {G : kx_G} (htr : l.stackTraces = false) {σ : kx_H} {mo : Nat} {ad : Nat → Nat} {z : Nat → Int32} {u : Nat → Nat} {x : Int32} (h0 : σ (1, 0) = some (mo, .inr (3, mo_L ad z))) (hw : σ (1, 1) = some (ad 0, kx_ai G 1417 (mx_w u))) {O : Nat → Int32} (ho : σ (1, 27) = some (ad 26, kx_ai G 60 O)) (hu : mx_ok u) : kx_SP l G yX4_printMonth (ws_ yX4_printMonth cX4_printMonth 3 (some .int)) 8 0 0 [.ref mo, .int x] σ (fun v τ => v = some (.int (an_prM u x).2) ∧ ((an_prM u x).1 = 0 → τ = mo_W G (kx_up σ (1, 0) (mo, .inr (3, mo_L ad (mo_z z 9 (nI 0))))) mo ad (mo_z z 9 (nI 0)) (mo_wr O 0 (pr_m u (mx_n x) 16)) (pr_m u (mx_n x) 16).length) ∧ ((an_prM u x).1 ≠ 0 → τ = kx_up σ (1, 0) (mo, .inr (3, mo_L ad (mo_z z 9 (nI (an_prM u x).1)))))) kx_nx := by
  refine kx_body htr (by decide +kernel) (own := "RoseProverbsModel") (nm := "printMonth") rfl rfl (Nat.le_of_ble_eq_true rfl) ?_
  intro p e s m args below meth c Q C hQ
  have gn := hu.1
  first | refine ri_aload_n C dX4_printMonth_0 rfl ?_ | refine ri_aload_nQ C dX4_printMonth_0 rfl ?_ | refine ri_aload_nN C dX4_printMonth_0 rfl ?_
  refine ri_iconst C dX4_printMonth_1 kc_i0 ?_
  refine ri_putf C dX4_printMonth_2 fd_q2979_3 (fun h => nomatch h) (by first | assumption | (repeat (first | assumption | exact kx_rs (by assumption) | exact kx_ne2 (by omega) | exact kx_ne1 (by omega) | refine kx_ro (by assumption) ?_ ?_ | exact kx_rs rfl | refine kx_ro rfl ?_ ?_))) (Nat.le_of_ble_eq_true rfl) (by rfl) (by rfl) mo_set9 (fun s2 e2 => ?_)
  first | refine ri_aload_n C dX4_printMonth_5 rfl ?_ | refine ri_aload_nQ C dX4_printMonth_5 rfl ?_ | refine ri_aload_nN C dX4_printMonth_5 rfl ?_
  refine ri_iconst C dX4_printMonth_6 kc_i0 ?_
  refine ri_iload_n C dX4_printMonth_7 rfl ?_
  refine ri_callV C km_X4_noPlace q3350 qs114 dX4_printMonth_8 (mt_X4_noPlace htr (by first | assumption | (repeat (first | assumption | exact kx_rs (by assumption) | exact kx_ne2 (by omega) | exact kx_ne1 (by omega) | refine kx_ro (by assumption) ?_ ?_ | exact kx_rs rfl | refine kx_ro rfl ?_ ?_)))) rfl rfl (kx_rcN C (by first | assumption | (repeat (first | assumption | exact kx_rs (by assumption) | exact kx_ne2 (by omega) | exact kx_ne1 (by omega) | refine kx_ro (by assumption) ?_ ?_ | exact kx_rs rfl | refine kx_ro rfl ?_ ?_))) rfl) ⟨⟨(Nat.le_of_ble_eq_true rfl), (Nat.le_of_ble_eq_true rfl)⟩, (Nat.le_of_ble_eq_true rfl), (Nat.le_of_ble_eq_true rfl), (Nat.le_of_ble_eq_true rfl)⟩ (fun v8 s8 h8 => ?_) (fun _ _ _ h => h.elim)
  obtain ⟨rfl, e8⟩ := h8
  first | refine ri_if_eqB C 16 dX4_printMonth_11 rfl (fun h11 => ?_) (fun h11 => ?_) | refine ri_if_eqN C 16 dX4_printMonth_11 rfl (by omega) (fun h11 => ?_) (fun h11 => ?_) | refine ri_if_eq C 16 dX4_printMonth_11 rfl (fun h11 => ?_) (fun h11 => ?_)
  · have c1 : (mx_ix (nI 0) 16 && mx_ix x 12) = true := kx_bn_f h11
    rw [c1, cond_true] at e8
    subst e8
    have c1y : mx_ix x 12 = true := by rw [show mx_ix (nI 0) 16 = true by decide, Bool.true_and] at c1; exact c1
    obtain ⟨k2, hk2, rfl⟩ := mx_ix_t c1y
    have nk2 : mx_n (nI k2) = k2 := mx_n_nI (by omega)
    first | refine ri_aload_n C dX4_printMonth_16 rfl ?_ | refine ri_aload_nQ C dX4_printMonth_16 rfl ?_ | refine ri_aload_nN C dX4_printMonth_16 rfl ?_
    refine ri_iconst C dX4_printMonth_17 kc_i0 ?_
    refine ri_putf C dX4_printMonth_18 fd_q2997_3 (fun h => nomatch h) (by first | assumption | (repeat (first | assumption | exact kx_rs (by assumption) | exact kx_ne2 (by omega) | exact kx_ne1 (by omega) | refine kx_ro (by assumption) ?_ ?_ | exact kx_rs rfl | refine kx_ro rfl ?_ ?_))) (Nat.le_of_ble_eq_true rfl) (by rfl) (by rfl) mo_set27 (fun s18 e18 => ?_)
    refine ri_iconst C dX4_printMonth_21 kc_i0 ?_
    refine ri_istore_n C dX4_printMonth_22 rfl (by decide) ?_
    have LP : ∀ (wk i : Nat) (τ : kx_H), i ≤ 16 → 16 < i + wk → τ = mo_W G s8 mo ad (mo_z z 9 (nI 0)) (mo_wr O 0 (pr_m u k2 i)) i → kx_V G l p e (kx_rm 8 0 0) s m args below meth c 3 Q 23 [(0, .ref mo), (1, .int (nI k2)), (2, .int (nI i))] [] τ 0 0 := by
      intro wk
      induction wk with
      | zero => intro i τ h1 h2; exact absurd h2 (by omega)
      | succ wk ih =>
        intro i τ hi hwk hI
        have b0 := mo_W_0 (G := G) (σ := s8) (mo := mo) (ad := ad) (z := mo_z z 9 (nI 0)) (O := mo_wr O 0 (pr_m u k2 i)) (n := i)
        rw [← hI] at b0
        have bw := mo_W_o (G := G) (mo := mo) (ad := ad) (z := mo_z z 9 (nI 0)) (O := mo_wr O 0 (pr_m u k2 i)) (n := i) (kx_ro e2 hw (by decide)) (by decide) (by decide)
        rw [← hI] at bw
        refine ri_iload_n C dX4_printMonth_23 rfl ?_
        refine ri_bipush C dX4_printMonth_24 kc_b16 ?_
        first | refine ri_icmp_geN C 63 dX4_printMonth_26 rfl (by omega) (by omega) (fun h26 => ?_) (fun h26 => ?_) | refine ri_icmp_ge C 63 dX4_printMonth_26 rfl (fun h26 => ?_) (fun h26 => ?_)
        · obtain rfl : i = 16 := by omega
          first | refine ri_aload_n C dX4_printMonth_63 rfl ?_ | refine ri_aload_nQ C dX4_printMonth_63 rfl ?_ | refine ri_aload_nN C dX4_printMonth_63 rfl ?_
          refine ri_getf C dX4_printMonth_64 fr_q2997_3 b0 (by rfl) ?_
          rw [mo_z_s]
          exact ri_iret C hQ dX4_printMonth_67 rfl (Nat.le_of_ble_eq_true rfl) (Nat.le_of_ble_eq_true rfl) (by refine ⟨by simp only [an_prM, an_c, c1, cond_true], fun _ => ?_, fun h => ?_⟩; (rw [hI, pr_m_l, e2, nk2]); (simp only [an_prM, an_c, c1, cond_true] at h; exact absurd rfl h))
        · first | refine ri_aload_n C dX4_printMonth_29 rfl ?_ | refine ri_aload_nQ C dX4_printMonth_29 rfl ?_ | refine ri_aload_nN C dX4_printMonth_29 rfl ?_
          first | refine ri_aload_n C dX4_printMonth_30 rfl ?_ | refine ri_aload_nQ C dX4_printMonth_30 rfl ?_ | refine ri_aload_nN C dX4_printMonth_30 rfl ?_
          refine ri_iload_n C dX4_printMonth_31 rfl ?_
          refine ri_iload_n C dX4_printMonth_32 rfl ?_
          refine ri_callV C km_X4_toldAt q3213 qs90 dX4_printMonth_33 (mt_X4_toldAt htr b0 bw hu (by omega) hk2) rfl rfl (kx_rcN C (by first | assumption | (repeat (first | assumption | exact kx_rs (by assumption) | exact kx_ne2 (by omega) | exact kx_ne1 (by omega) | refine kx_ro (by assumption) ?_ ?_ | exact kx_rs rfl | refine kx_ro rfl ?_ ?_))) rfl) ⟨⟨(Nat.le_of_ble_eq_true rfl), (Nat.le_of_ble_eq_true rfl)⟩, (Nat.le_of_ble_eq_true rfl), (Nat.le_of_ble_eq_true rfl), (Nat.le_of_ble_eq_true rfl)⟩ (fun v33 s33 h33 => ?_) (fun _ _ _ h => h.elim)
          obtain ⟨rfl, rfl⟩ := h33
          refine ri_iconst C dX4_printMonth_36 kc_im1 ?_
          
          refine ri_icmp_ne C 45 dX4_printMonth_37 rfl (fun h37 => ?_) (fun h37 => ?_)
          · obtain ⟨b, hb⟩ : ∃ b, mx_told u i k2 = some b := (by cases ht : mx_told u i k2 with | none => rw [ht] at h37; exact absurd rfl h37 | some b => exact ⟨b, rfl⟩)
            have hc : pr_c u k2 i = 48 + b := by unfold pr_c; rw [hb]
            refine ri_bipush C dX4_printMonth_45 kc_b48 ?_
            first | refine ri_aload_n C dX4_printMonth_47 rfl ?_ | refine ri_aload_nQ C dX4_printMonth_47 rfl ?_ | refine ri_aload_nN C dX4_printMonth_47 rfl ?_
            refine ri_iload_n C dX4_printMonth_48 rfl ?_
            refine ri_iload_n C dX4_printMonth_49 rfl ?_
            refine ri_callV C km_X4_toldAt q3213 qs90 dX4_printMonth_50 (mt_X4_toldAt htr b0 bw hu (by omega) hk2) rfl rfl (kx_rcN C (by first | assumption | (repeat (first | assumption | exact kx_rs (by assumption) | exact kx_ne2 (by omega) | exact kx_ne1 (by omega) | refine kx_ro (by assumption) ?_ ?_ | exact kx_rs rfl | refine kx_ro rfl ?_ ?_))) rfl) ⟨⟨(Nat.le_of_ble_eq_true rfl), (Nat.le_of_ble_eq_true rfl)⟩, (Nat.le_of_ble_eq_true rfl), (Nat.le_of_ble_eq_true rfl), (Nat.le_of_ble_eq_true rfl)⟩ (fun v50 s50 h50 => ?_) (fun _ _ _ h => h.elim)
            obtain ⟨rfl, rfl⟩ := h50
            rw [show mx_o (mx_told u i k2) = nI b by rw [hb]; rfl]
            first | refine ri_iaddN C dX4_printMonth_53 ?_ | refine ri_iadd C dX4_printMonth_53 ?_
            refine ri_callV C km_X4_write q3534 qs130 dX4_printMonth_54 (mt_X4_write htr hI (by omega)) rfl rfl (kx_rcN C (by first | assumption | (repeat (first | assumption | exact kx_rs (by assumption) | exact kx_ne2 (by omega) | exact kx_ne1 (by omega) | refine kx_ro (by assumption) ?_ ?_ | exact kx_rs rfl | refine kx_ro rfl ?_ ?_))) rfl) ⟨⟨(Nat.le_of_ble_eq_true rfl), (Nat.le_of_ble_eq_true rfl)⟩, (Nat.le_of_ble_eq_true rfl), (Nat.le_of_ble_eq_true rfl), (Nat.le_of_ble_eq_true rfl)⟩ (fun v54 s54 h54 => ?_) (fun _ _ _ h => h.elim)
            obtain ⟨rfl, e54⟩ := h54
            first | refine ri_iincN C dX4_printMonth_57 rfl rfl (by decide) ?_ | refine ri_iinc C dX4_printMonth_57 rfl rfl rfl (by decide) ?_
            refine ri_goto C 23 dX4_printMonth_60 rfl ?_
            refine ri_lv2 (ih (i + 1) _ (by omega) (by omega) ?_) ⟨rfl, rfl, rfl, trivial⟩
            rw [e54, pr_m_s, mo_wr_a, pr_m_l, hc, Nat.zero_add]; rfl
          · have hc : pr_c u k2 i = 46 := (by unfold pr_c; cases ht : mx_told u i k2 with | none => rfl | some b => rw [ht] at h37; exact absurd h37 (nI_m1 (by have := mx_told_b ht; omega)))
            refine ri_bipush C dX4_printMonth_40 kc_b46 ?_
            refine ri_goto C 54 dX4_printMonth_42 rfl ?_
            refine ri_callV C km_X4_write q3534 qs130 dX4_printMonth_54 (mt_X4_write htr hI (by omega)) rfl rfl (kx_rcN C (by first | assumption | (repeat (first | assumption | exact kx_rs (by assumption) | exact kx_ne2 (by omega) | exact kx_ne1 (by omega) | refine kx_ro (by assumption) ?_ ?_ | exact kx_rs rfl | refine kx_ro rfl ?_ ?_))) rfl) ⟨⟨(Nat.le_of_ble_eq_true rfl), (Nat.le_of_ble_eq_true rfl)⟩, (Nat.le_of_ble_eq_true rfl), (Nat.le_of_ble_eq_true rfl), (Nat.le_of_ble_eq_true rfl)⟩ (fun v54 s54 h54 => ?_) (fun _ _ _ h => h.elim)
            obtain ⟨rfl, e54⟩ := h54
            first | refine ri_iincN C dX4_printMonth_57 rfl rfl (by decide) ?_ | refine ri_iinc C dX4_printMonth_57 rfl rfl rfl (by decide) ?_
            refine ri_goto C 23 dX4_printMonth_60 rfl ?_
            refine ri_lv2 (ih (i + 1) _ (by omega) (by omega) ?_) ⟨rfl, rfl, rfl, trivial⟩
            rw [e54, pr_m_s, mo_wr_a, pr_m_l, hc, Nat.zero_add]; rfl
    refine ri_lv2 (LP 17 0 _ (by omega) (by omega) ?_) ⟨rfl, rfl, rfl, trivial⟩
    rw [e18]; unfold mo_W; rw [show mo_wr O 0 (pr_m u k2 0) = O from rfl, kx_up_i (kx_ro e2 ho (by decide))]
  · have c1 : (mx_ix (nI 0) 16 && mx_ix x 12) = false := kx_bn_t h11
    rw [c1, cond_false] at e8
    refine ri_iconst C dX4_printMonth_14 kc_i0 ?_
    exact ri_iret C hQ dX4_printMonth_15 rfl (Nat.le_of_ble_eq_true rfl) (Nat.le_of_ble_eq_true rfl) (by (refine ⟨by simp only [an_prM, an_c, c1, Bool.and_true, Bool.and_false, Bool.true_and, Bool.false_and, Bool.not_true, Bool.not_false, cond_true, cond_false] <;> rfl, fun h => ?_, fun _ => ?_⟩; (simp only [an_prM, an_c, c1, Bool.and_true, Bool.and_false, Bool.true_and, Bool.false_and, Bool.not_true, Bool.not_false, cond_true, cond_false] at h; exact absurd h (by decide)); (simp only [an_prM, an_c, c1, Bool.and_true, Bool.and_false, Bool.true_and, Bool.false_and, Bool.not_true, Bool.not_false, cond_true, cond_false]; first | assumption | exact mo_e2 (by assumption) (by assumption))))
set_option maxHeartbeats 1000000 in
theorem mt_X4_outputByte {l : Launch} {G : kx_G} (htr : l.stackTraces = false) {σ : kx_H} {mo : Nat} {ad : Nat → Nat} {z : Nat → Int32} {x : Int32} {n : Nat} (h0 : σ (1, 0) = some (mo, .inr (3, mo_L ad z))) {O : Nat → Int32} (ho : σ (1, 27) = some (ad 26, kx_ai G 60 O)) (hz : z 27 = nI n) (hn : n ≤ 60) : kx_SP l G yX4_outputByte (ws_ yX4_outputByte cX4_outputByte 2 (some .int)) 2 0 0 [.ref mo, .int x] σ (fun v τ => v = some (.int (an_ob O n x)) ∧ τ = kx_up σ (1, 0) (mo, .inr (3, mo_L ad (mo_z z 9 (nI 0))))) kx_nx := by
  refine kx_body htr (by decide +kernel) (own := "RoseProverbsModel") (nm := "outputByte") rfl rfl (Nat.le_of_ble_eq_true rfl) ?_
  intro p e s m args below meth c Q C hQ
  first | refine ri_aload_n C dX4_outputByte_0 rfl ?_ | refine ri_aload_nQ C dX4_outputByte_0 rfl ?_ | refine ri_aload_nN C dX4_outputByte_0 rfl ?_
  refine ri_iconst C dX4_outputByte_1 kc_i0 ?_
  refine ri_putf C dX4_outputByte_2 fd_q2979_3 (fun h => nomatch h) (by first | assumption | (repeat (first | assumption | exact kx_rs (by assumption) | exact kx_ne2 (by omega) | exact kx_ne1 (by omega) | refine kx_ro (by assumption) ?_ ?_ | exact kx_rs rfl | refine kx_ro rfl ?_ ?_))) (Nat.le_of_ble_eq_true rfl) (by rfl) (by rfl) mo_set9 (fun s2 e2 => ?_)
  cases c1 : mx_ix x n
  · refine ri_iload_n C dX4_outputByte_5 rfl ?_
    refine ri_iconst C dX4_outputByte_6 kc_i0 ?_
    first | refine ri_aload_n C dX4_outputByte_7 rfl ?_ | refine ri_aload_nQ C dX4_outputByte_7 rfl ?_ | refine ri_aload_nN C dX4_outputByte_7 rfl ?_
    refine ri_getf C dX4_outputByte_8 fr_q2997_3 (by first | assumption | (repeat (first | assumption | exact kx_rs (by assumption) | exact kx_ne2 (by omega) | exact kx_ne1 (by omega) | refine kx_ro (by assumption) ?_ ?_ | exact kx_rs rfl | refine kx_ro rfl ?_ ?_))) (by rfl) ?_
    rw [show mo_z z 9 (nI 0) 27 = nI n from hz]
    refine ri_iconst C dX4_outputByte_11 kc_i1 ?_
    refine ri_isub C dX4_outputByte_12 ?_
    refine ri_callS C km_X4_inRange q3071 dX4_outputByte_13 (mt_X4_inRange htr) rfl rfl ⟨⟨(Nat.le_of_ble_eq_true rfl), (Nat.le_of_ble_eq_true rfl)⟩, (Nat.le_of_ble_eq_true rfl), (Nat.le_of_ble_eq_true rfl), (Nat.le_of_ble_eq_true rfl)⟩ (fun v13 s13 h13 => ?_) (fun _ _ _ h => h.elim)
    obtain ⟨rfl, rfl⟩ := h13
    rw [mx_ix_m (by omega), c1]
    first | refine ri_if_eqB C 28 dX4_outputByte_16 rfl (fun h16 => ?_) (fun h16 => ?_) | refine ri_if_eqN C 28 dX4_outputByte_16 rfl (by omega) (fun h16 => ?_) (fun h16 => ?_) | refine ri_if_eq C 28 dX4_outputByte_16 rfl (fun h16 => ?_) (fun h16 => ?_)
    · refine ri_iconst C dX4_outputByte_28 kc_im1 ?_
      exact ri_iret C hQ dX4_outputByte_29 rfl (Nat.le_of_ble_eq_true rfl) (Nat.le_of_ble_eq_true rfl) ⟨by simp only [an_ob, c1, cond_false], by assumption⟩
    · exact absurd h16 (by decide) --dead
  · obtain ⟨k1, hk1, rfl⟩ := mx_ix_t c1
    have nk1 : mx_n (nI k1) = k1 := mx_n_nI (by omega)
    refine ri_iload_n C dX4_outputByte_5 rfl ?_
    refine ri_iconst C dX4_outputByte_6 kc_i0 ?_
    first | refine ri_aload_n C dX4_outputByte_7 rfl ?_ | refine ri_aload_nQ C dX4_outputByte_7 rfl ?_ | refine ri_aload_nN C dX4_outputByte_7 rfl ?_
    refine ri_getf C dX4_outputByte_8 fr_q2997_3 (by first | assumption | (repeat (first | assumption | exact kx_rs (by assumption) | exact kx_ne2 (by omega) | exact kx_ne1 (by omega) | refine kx_ro (by assumption) ?_ ?_ | exact kx_rs rfl | refine kx_ro rfl ?_ ?_))) (by rfl) ?_
    rw [show mo_z z 9 (nI 0) 27 = nI n from hz]
    refine ri_iconst C dX4_outputByte_11 kc_i1 ?_
    refine ri_isub C dX4_outputByte_12 ?_
    refine ri_callS C km_X4_inRange q3071 dX4_outputByte_13 (mt_X4_inRange htr) rfl rfl ⟨⟨(Nat.le_of_ble_eq_true rfl), (Nat.le_of_ble_eq_true rfl)⟩, (Nat.le_of_ble_eq_true rfl), (Nat.le_of_ble_eq_true rfl), (Nat.le_of_ble_eq_true rfl)⟩ (fun v13 s13 h13 => ?_) (fun _ _ _ h => h.elim)
    obtain ⟨rfl, rfl⟩ := h13
    rw [mx_ix_m (by omega), c1]
    first | refine ri_if_eqB C 28 dX4_outputByte_16 rfl (fun h16 => ?_) (fun h16 => ?_) | refine ri_if_eqN C 28 dX4_outputByte_16 rfl (by omega) (fun h16 => ?_) (fun h16 => ?_) | refine ri_if_eq C 28 dX4_outputByte_16 rfl (fun h16 => ?_) (fun h16 => ?_)
    · exact absurd h16 (by decide) --dead
    · first | refine ri_aload_n C dX4_outputByte_19 rfl ?_ | refine ri_aload_nQ C dX4_outputByte_19 rfl ?_ | refine ri_aload_nN C dX4_outputByte_19 rfl ?_
      refine ri_getf C dX4_outputByte_20 fr_q2996_3 (by first | assumption | (repeat (first | assumption | exact kx_rs (by assumption) | exact kx_ne2 (by omega) | exact kx_ne1 (by omega) | refine kx_ro (by assumption) ?_ ?_ | exact kx_rs rfl | refine kx_ro rfl ?_ ?_))) (by rfl) ?_
      refine ri_iload_n C dX4_outputByte_23 rfl ?_
      refine ri_iaload C dX4_outputByte_24 (by first | assumption | (repeat (first | assumption | exact kx_rs (by assumption) | exact kx_ne2 (by omega) | exact kx_ne1 (by omega) | refine kx_ro (by assumption) ?_ ?_ | exact kx_rs rfl | refine kx_ro rfl ?_ ?_))) rfl (by omega) ?_
      refine ri_goto C 29 dX4_outputByte_25 rfl ?_
      exact ri_iret C hQ dX4_outputByte_29 rfl (Nat.le_of_ble_eq_true rfl) (Nat.le_of_ble_eq_true rfl) ⟨by simp only [an_ob, c1, cond_true, nk1], by assumption⟩
set_option maxHeartbeats 1000000 in
theorem mt_X4_printProverb {l : Launch} {G : kx_G} (htr : l.stackTraces = false) {σ : kx_H} {mo : Nat} {ad : Nat → Nat} {z : Nat → Int32} {u : Nat → Nat} {x : Int32} (h0 : σ (1, 0) = some (mo, .inr (3, mo_L ad z))) (hw : σ (1, 1) = some (ad 0, kx_ai G 1417 (mx_w u))) {O : Nat → Int32} (ho : σ (1, 27) = some (ad 26, kx_ai G 60 O)) (hu : mx_ok u) : kx_SP l G yX4_printProverb (ws_ yX4_printProverb cX4_printProverb 2 (some .int)) 8 0 0 [.ref mo, .int x] σ (fun v τ => v = some (.int (an_prP u x).2) ∧ ((an_prP u x).1 = 0 → τ = mo_W G (kx_up σ (1, 0) (mo, .inr (3, mo_L ad (mo_z z 9 (nI 0))))) mo ad (mo_z z 9 (nI 0)) (mo_wr O 0 (pr_p u (mx_n x))) (pr_p u (mx_n x)).length) ∧ ((an_prP u x).1 ≠ 0 → τ = kx_up σ (1, 0) (mo, .inr (3, mo_L ad (mo_z z 9 (nI (an_prP u x).1)))))) kx_nx := by
  refine kx_body htr (by decide +kernel) (own := "RoseProverbsModel") (nm := "printProverb") rfl rfl (Nat.le_of_ble_eq_true rfl) ?_
  intro p e s m args below meth c Q C hQ
  have gn := hu.1
  first | refine ri_aload_n C dX4_printProverb_0 rfl ?_ | refine ri_aload_nQ C dX4_printProverb_0 rfl ?_ | refine ri_aload_nN C dX4_printProverb_0 rfl ?_
  refine ri_iconst C dX4_printProverb_1 kc_i0 ?_
  refine ri_putf C dX4_printProverb_2 fd_q2979_3 (fun h => nomatch h) (by first | assumption | (repeat (first | assumption | exact kx_rs (by assumption) | exact kx_ne2 (by omega) | exact kx_ne1 (by omega) | refine kx_ro (by assumption) ?_ ?_ | exact kx_rs rfl | refine kx_ro rfl ?_ ?_))) (Nat.le_of_ble_eq_true rfl) (by rfl) (by rfl) mo_set9 (fun s2 e2 => ?_)
  first | refine ri_aload_n C dX4_printProverb_5 rfl ?_ | refine ri_aload_nQ C dX4_printProverb_5 rfl ?_ | refine ri_aload_nN C dX4_printProverb_5 rfl ?_
  refine ri_iload_n C dX4_printProverb_6 rfl ?_
  refine ri_callV C km_X4_noProverb q3342 qs113 dX4_printProverb_7 (mt_X4_noProverb htr (by first | assumption | (repeat (first | assumption | exact kx_rs (by assumption) | exact kx_ne2 (by omega) | exact kx_ne1 (by omega) | refine kx_ro (by assumption) ?_ ?_ | exact kx_rs rfl | refine kx_ro rfl ?_ ?_))) (by first | assumption | (repeat (first | assumption | exact kx_rs (by assumption) | exact kx_ne2 (by omega) | exact kx_ne1 (by omega) | refine kx_ro (by assumption) ?_ ?_ | exact kx_rs rfl | refine kx_ro rfl ?_ ?_))) (by omega)) rfl rfl (kx_rcN C (by first | assumption | (repeat (first | assumption | exact kx_rs (by assumption) | exact kx_ne2 (by omega) | exact kx_ne1 (by omega) | refine kx_ro (by assumption) ?_ ?_ | exact kx_rs rfl | refine kx_ro rfl ?_ ?_))) rfl) ⟨⟨(Nat.le_of_ble_eq_true rfl), (Nat.le_of_ble_eq_true rfl)⟩, (Nat.le_of_ble_eq_true rfl), (Nat.le_of_ble_eq_true rfl), (Nat.le_of_ble_eq_true rfl)⟩ (fun v7 s7 h7 => ?_) (fun _ _ _ h => h.elim)
  obtain ⟨rfl, e7⟩ := h7
  first | refine ri_if_eqB C 15 dX4_printProverb_10 rfl (fun h10 => ?_) (fun h10 => ?_) | refine ri_if_eqN C 15 dX4_printProverb_10 rfl (by omega) (fun h10 => ?_) (fun h10 => ?_) | refine ri_if_eq C 15 dX4_printProverb_10 rfl (fun h10 => ?_) (fun h10 => ?_)
  · have c1 : mx_ix x (u 0) = true := kx_bn_f h10
    rw [c1, cond_true] at e7
    subst e7
    obtain ⟨k1, hk1, rfl⟩ := mx_ix_t c1
    have nk1 : mx_n (nI k1) = k1 := mx_n_nI (by omega)
    have gk := hu.2.1 k1 hk1
    first | refine ri_aload_n C dX4_printProverb_15 rfl ?_ | refine ri_aload_nQ C dX4_printProverb_15 rfl ?_ | refine ri_aload_nN C dX4_printProverb_15 rfl ?_
    refine ri_iconst C dX4_printProverb_16 kc_i0 ?_
    refine ri_putf C dX4_printProverb_17 fd_q2997_3 (fun h => nomatch h) (by first | assumption | (repeat (first | assumption | exact kx_rs (by assumption) | exact kx_ne2 (by omega) | exact kx_ne1 (by omega) | refine kx_ro (by assumption) ?_ ?_ | exact kx_rs rfl | refine kx_ro rfl ?_ ?_))) (Nat.le_of_ble_eq_true rfl) (by rfl) (by rfl) mo_set27 (fun s17 e17 => ?_)
    have E17 : s17 = mo_W G s7 mo ad (mo_z z 9 (nI 0)) (mo_wr O 0 []) ([] : List Nat).length := by rw [e17]; unfold mo_W; show _ = kx_up (kx_up s7 (1, 27) (ad 26, kx_ai G 60 O)) _ _; rw [kx_up_i (kx_ro e2 ho (by decide))]; rfl
    have b17 := mo_W_0e E17
    have w17 := mo_W_oe E17 (kx_ro e2 hw (by decide)) (by decide) (by decide)
    have l0 := pr_d_l (v := mx_p u k1 0)
    have l1 := pr_d_l (v := mx_p u k1 1)
    have l2 := pr_d_l (v := mx_p u k1 2)
    have l3 := pr_d_l (v := mx_p u k1 3)
    have l4 := pr_d_l (v := mx_p u k1 4)
    have l6 := pr_d_l (v := mx_p u k1 6)
    first | refine ri_aload_n C dX4_printProverb_20 rfl ?_ | refine ri_aload_nQ C dX4_printProverb_20 rfl ?_ | refine ri_aload_nN C dX4_printProverb_20 rfl ?_
    first | refine ri_aload_n C dX4_printProverb_21 rfl ?_ | refine ri_aload_nQ C dX4_printProverb_21 rfl ?_ | refine ri_aload_nN C dX4_printProverb_21 rfl ?_
    refine ri_iload_n C dX4_printProverb_22 rfl ?_
    refine ri_iconst C dX4_printProverb_23 kc_i0 ?_
    refine ri_callV C km_X4_of q3140 qs75 dX4_printProverb_24 (mt_X4_of htr b17 w17 (by omega)) rfl rfl (kx_rcN C (by first | assumption | (repeat (first | assumption | exact kx_rs (by assumption) | exact kx_ne2 (by omega) | exact kx_ne1 (by omega) | refine kx_ro (by assumption) ?_ ?_ | exact kx_rs rfl | refine kx_ro rfl ?_ ?_))) rfl) ⟨⟨(Nat.le_of_ble_eq_true rfl), (Nat.le_of_ble_eq_true rfl)⟩, (Nat.le_of_ble_eq_true rfl), (Nat.le_of_ble_eq_true rfl), (Nat.le_of_ble_eq_true rfl)⟩ (fun v24 s24 h24 => ?_) (fun _ _ _ h => h.elim)
    obtain ⟨rfl, rfl⟩ := h24
    refine ri_callV C km_X4_writeNumber q3542 qs131 dX4_printProverb_27 (mt_X4_writeNumber htr E17 (by simp only [List.length_append, List.length_cons, List.length_nil]; omega) (by omega)) rfl rfl (kx_rcN C (by first | assumption | (repeat (first | assumption | exact kx_rs (by assumption) | exact kx_ne2 (by omega) | exact kx_ne1 (by omega) | refine kx_ro (by assumption) ?_ ?_ | exact kx_rs rfl | refine kx_ro rfl ?_ ?_))) rfl) ⟨⟨(Nat.le_of_ble_eq_true rfl), (Nat.le_of_ble_eq_true rfl)⟩, (Nat.le_of_ble_eq_true rfl), (Nat.le_of_ble_eq_true rfl), (Nat.le_of_ble_eq_true rfl)⟩ (fun v27 s27 h27 => ?_) (fun _ _ _ h => h.elim)
    obtain ⟨rfl, E27⟩ := h27
    replace E27 := mo_W_n E27
    have b27 := mo_W_0e E27
    have w27 := mo_W_oe E27 (kx_ro e2 hw (by decide)) (by decide) (by decide)
    first | refine ri_aload_n C dX4_printProverb_30 rfl ?_ | refine ri_aload_nQ C dX4_printProverb_30 rfl ?_ | refine ri_aload_nN C dX4_printProverb_30 rfl ?_
    refine ri_bipush C dX4_printProverb_31 kc_b45 ?_
    refine ri_callV C km_X4_write q3534 qs130 dX4_printProverb_33 (mt_X4_write htr E27 (by simp only [List.length_append, List.length_cons, List.length_nil]; omega)) rfl rfl (kx_rcN C (by first | assumption | (repeat (first | assumption | exact kx_rs (by assumption) | exact kx_ne2 (by omega) | exact kx_ne1 (by omega) | refine kx_ro (by assumption) ?_ ?_ | exact kx_rs rfl | refine kx_ro rfl ?_ ?_))) rfl) ⟨⟨(Nat.le_of_ble_eq_true rfl), (Nat.le_of_ble_eq_true rfl)⟩, (Nat.le_of_ble_eq_true rfl), (Nat.le_of_ble_eq_true rfl), (Nat.le_of_ble_eq_true rfl)⟩ (fun v33 s33 h33 => ?_) (fun _ _ _ h => h.elim)
    obtain ⟨rfl, E33⟩ := h33
    replace E33 := mo_W_w E33
    have b33 := mo_W_0e E33
    have w33 := mo_W_oe E33 (kx_ro e2 hw (by decide)) (by decide) (by decide)
    first | refine ri_aload_n C dX4_printProverb_36 rfl ?_ | refine ri_aload_nQ C dX4_printProverb_36 rfl ?_ | refine ri_aload_nN C dX4_printProverb_36 rfl ?_
    first | refine ri_aload_n C dX4_printProverb_37 rfl ?_ | refine ri_aload_nQ C dX4_printProverb_37 rfl ?_ | refine ri_aload_nN C dX4_printProverb_37 rfl ?_
    refine ri_iload_n C dX4_printProverb_38 rfl ?_
    refine ri_iconst C dX4_printProverb_39 kc_i1 ?_
    refine ri_callV C km_X4_of q3140 qs75 dX4_printProverb_40 (mt_X4_of htr b33 w33 (by omega)) rfl rfl (kx_rcN C (by first | assumption | (repeat (first | assumption | exact kx_rs (by assumption) | exact kx_ne2 (by omega) | exact kx_ne1 (by omega) | refine kx_ro (by assumption) ?_ ?_ | exact kx_rs rfl | refine kx_ro rfl ?_ ?_))) rfl) ⟨⟨(Nat.le_of_ble_eq_true rfl), (Nat.le_of_ble_eq_true rfl)⟩, (Nat.le_of_ble_eq_true rfl), (Nat.le_of_ble_eq_true rfl), (Nat.le_of_ble_eq_true rfl)⟩ (fun v40 s40 h40 => ?_) (fun _ _ _ h => h.elim)
    obtain ⟨rfl, rfl⟩ := h40
    refine ri_callV C km_X4_writeNumber q3542 qs131 dX4_printProverb_43 (mt_X4_writeNumber htr E33 (by simp only [List.length_append, List.length_cons, List.length_nil]; omega) (by omega)) rfl rfl (kx_rcN C (by first | assumption | (repeat (first | assumption | exact kx_rs (by assumption) | exact kx_ne2 (by omega) | exact kx_ne1 (by omega) | refine kx_ro (by assumption) ?_ ?_ | exact kx_rs rfl | refine kx_ro rfl ?_ ?_))) rfl) ⟨⟨(Nat.le_of_ble_eq_true rfl), (Nat.le_of_ble_eq_true rfl)⟩, (Nat.le_of_ble_eq_true rfl), (Nat.le_of_ble_eq_true rfl), (Nat.le_of_ble_eq_true rfl)⟩ (fun v43 s43 h43 => ?_) (fun _ _ _ h => h.elim)
    obtain ⟨rfl, E43⟩ := h43
    replace E43 := mo_W_n E43
    have b43 := mo_W_0e E43
    have w43 := mo_W_oe E43 (kx_ro e2 hw (by decide)) (by decide) (by decide)
    first | refine ri_aload_n C dX4_printProverb_46 rfl ?_ | refine ri_aload_nQ C dX4_printProverb_46 rfl ?_ | refine ri_aload_nN C dX4_printProverb_46 rfl ?_
    refine ri_bipush C dX4_printProverb_47 kc_b64 ?_
    refine ri_callV C km_X4_write q3534 qs130 dX4_printProverb_49 (mt_X4_write htr E43 (by simp only [List.length_append, List.length_cons, List.length_nil]; omega)) rfl rfl (kx_rcN C (by first | assumption | (repeat (first | assumption | exact kx_rs (by assumption) | exact kx_ne2 (by omega) | exact kx_ne1 (by omega) | refine kx_ro (by assumption) ?_ ?_ | exact kx_rs rfl | refine kx_ro rfl ?_ ?_))) rfl) ⟨⟨(Nat.le_of_ble_eq_true rfl), (Nat.le_of_ble_eq_true rfl)⟩, (Nat.le_of_ble_eq_true rfl), (Nat.le_of_ble_eq_true rfl), (Nat.le_of_ble_eq_true rfl)⟩ (fun v49 s49 h49 => ?_) (fun _ _ _ h => h.elim)
    obtain ⟨rfl, E49⟩ := h49
    replace E49 := mo_W_w E49
    have b49 := mo_W_0e E49
    have w49 := mo_W_oe E49 (kx_ro e2 hw (by decide)) (by decide) (by decide)
    first | refine ri_aload_n C dX4_printProverb_52 rfl ?_ | refine ri_aload_nQ C dX4_printProverb_52 rfl ?_ | refine ri_aload_nN C dX4_printProverb_52 rfl ?_
    first | refine ri_aload_n C dX4_printProverb_53 rfl ?_ | refine ri_aload_nQ C dX4_printProverb_53 rfl ?_ | refine ri_aload_nN C dX4_printProverb_53 rfl ?_
    refine ri_iload_n C dX4_printProverb_54 rfl ?_
    refine ri_iconst C dX4_printProverb_55 kc_i2 ?_
    refine ri_callV C km_X4_of q3140 qs75 dX4_printProverb_56 (mt_X4_of htr b49 w49 (by omega)) rfl rfl (kx_rcN C (by first | assumption | (repeat (first | assumption | exact kx_rs (by assumption) | exact kx_ne2 (by omega) | exact kx_ne1 (by omega) | refine kx_ro (by assumption) ?_ ?_ | exact kx_rs rfl | refine kx_ro rfl ?_ ?_))) rfl) ⟨⟨(Nat.le_of_ble_eq_true rfl), (Nat.le_of_ble_eq_true rfl)⟩, (Nat.le_of_ble_eq_true rfl), (Nat.le_of_ble_eq_true rfl), (Nat.le_of_ble_eq_true rfl)⟩ (fun v56 s56 h56 => ?_) (fun _ _ _ h => h.elim)
    obtain ⟨rfl, rfl⟩ := h56
    refine ri_callV C km_X4_writeNumber q3542 qs131 dX4_printProverb_59 (mt_X4_writeNumber htr E49 (by simp only [List.length_append, List.length_cons, List.length_nil]; omega) (by omega)) rfl rfl (kx_rcN C (by first | assumption | (repeat (first | assumption | exact kx_rs (by assumption) | exact kx_ne2 (by omega) | exact kx_ne1 (by omega) | refine kx_ro (by assumption) ?_ ?_ | exact kx_rs rfl | refine kx_ro rfl ?_ ?_))) rfl) ⟨⟨(Nat.le_of_ble_eq_true rfl), (Nat.le_of_ble_eq_true rfl)⟩, (Nat.le_of_ble_eq_true rfl), (Nat.le_of_ble_eq_true rfl), (Nat.le_of_ble_eq_true rfl)⟩ (fun v59 s59 h59 => ?_) (fun _ _ _ h => h.elim)
    obtain ⟨rfl, E59⟩ := h59
    replace E59 := mo_W_n E59
    have b59 := mo_W_0e E59
    have w59 := mo_W_oe E59 (kx_ro e2 hw (by decide)) (by decide) (by decide)
    first | refine ri_aload_n C dX4_printProverb_62 rfl ?_ | refine ri_aload_nQ C dX4_printProverb_62 rfl ?_ | refine ri_aload_nN C dX4_printProverb_62 rfl ?_
    refine ri_bipush C dX4_printProverb_63 kc_b45 ?_
    refine ri_callV C km_X4_write q3534 qs130 dX4_printProverb_65 (mt_X4_write htr E59 (by simp only [List.length_append, List.length_cons, List.length_nil]; omega)) rfl rfl (kx_rcN C (by first | assumption | (repeat (first | assumption | exact kx_rs (by assumption) | exact kx_ne2 (by omega) | exact kx_ne1 (by omega) | refine kx_ro (by assumption) ?_ ?_ | exact kx_rs rfl | refine kx_ro rfl ?_ ?_))) rfl) ⟨⟨(Nat.le_of_ble_eq_true rfl), (Nat.le_of_ble_eq_true rfl)⟩, (Nat.le_of_ble_eq_true rfl), (Nat.le_of_ble_eq_true rfl), (Nat.le_of_ble_eq_true rfl)⟩ (fun v65 s65 h65 => ?_) (fun _ _ _ h => h.elim)
    obtain ⟨rfl, E65⟩ := h65
    replace E65 := mo_W_w E65
    have b65 := mo_W_0e E65
    have w65 := mo_W_oe E65 (kx_ro e2 hw (by decide)) (by decide) (by decide)
    first | refine ri_aload_n C dX4_printProverb_68 rfl ?_ | refine ri_aload_nQ C dX4_printProverb_68 rfl ?_ | refine ri_aload_nN C dX4_printProverb_68 rfl ?_
    first | refine ri_aload_n C dX4_printProverb_69 rfl ?_ | refine ri_aload_nQ C dX4_printProverb_69 rfl ?_ | refine ri_aload_nN C dX4_printProverb_69 rfl ?_
    refine ri_iload_n C dX4_printProverb_70 rfl ?_
    refine ri_iconst C dX4_printProverb_71 kc_i3 ?_
    refine ri_callV C km_X4_of q3140 qs75 dX4_printProverb_72 (mt_X4_of htr b65 w65 (by omega)) rfl rfl (kx_rcN C (by first | assumption | (repeat (first | assumption | exact kx_rs (by assumption) | exact kx_ne2 (by omega) | exact kx_ne1 (by omega) | refine kx_ro (by assumption) ?_ ?_ | exact kx_rs rfl | refine kx_ro rfl ?_ ?_))) rfl) ⟨⟨(Nat.le_of_ble_eq_true rfl), (Nat.le_of_ble_eq_true rfl)⟩, (Nat.le_of_ble_eq_true rfl), (Nat.le_of_ble_eq_true rfl), (Nat.le_of_ble_eq_true rfl)⟩ (fun v72 s72 h72 => ?_) (fun _ _ _ h => h.elim)
    obtain ⟨rfl, rfl⟩ := h72
    refine ri_callV C km_X4_writeNumber q3542 qs131 dX4_printProverb_75 (mt_X4_writeNumber htr E65 (by simp only [List.length_append, List.length_cons, List.length_nil]; omega) (by omega)) rfl rfl (kx_rcN C (by first | assumption | (repeat (first | assumption | exact kx_rs (by assumption) | exact kx_ne2 (by omega) | exact kx_ne1 (by omega) | refine kx_ro (by assumption) ?_ ?_ | exact kx_rs rfl | refine kx_ro rfl ?_ ?_))) rfl) ⟨⟨(Nat.le_of_ble_eq_true rfl), (Nat.le_of_ble_eq_true rfl)⟩, (Nat.le_of_ble_eq_true rfl), (Nat.le_of_ble_eq_true rfl), (Nat.le_of_ble_eq_true rfl)⟩ (fun v75 s75 h75 => ?_) (fun _ _ _ h => h.elim)
    obtain ⟨rfl, E75⟩ := h75
    replace E75 := mo_W_n E75
    have b75 := mo_W_0e E75
    have w75 := mo_W_oe E75 (kx_ro e2 hw (by decide)) (by decide) (by decide)
    first | refine ri_aload_n C dX4_printProverb_78 rfl ?_ | refine ri_aload_nQ C dX4_printProverb_78 rfl ?_ | refine ri_aload_nN C dX4_printProverb_78 rfl ?_
    refine ri_bipush C dX4_printProverb_79 kc_b62 ?_
    refine ri_callV C km_X4_write q3534 qs130 dX4_printProverb_81 (mt_X4_write htr E75 (by simp only [List.length_append, List.length_cons, List.length_nil]; omega)) rfl rfl (kx_rcN C (by first | assumption | (repeat (first | assumption | exact kx_rs (by assumption) | exact kx_ne2 (by omega) | exact kx_ne1 (by omega) | refine kx_ro (by assumption) ?_ ?_ | exact kx_rs rfl | refine kx_ro rfl ?_ ?_))) rfl) ⟨⟨(Nat.le_of_ble_eq_true rfl), (Nat.le_of_ble_eq_true rfl)⟩, (Nat.le_of_ble_eq_true rfl), (Nat.le_of_ble_eq_true rfl), (Nat.le_of_ble_eq_true rfl)⟩ (fun v81 s81 h81 => ?_) (fun _ _ _ h => h.elim)
    obtain ⟨rfl, E81⟩ := h81
    replace E81 := mo_W_w E81
    have b81 := mo_W_0e E81
    have w81 := mo_W_oe E81 (kx_ro e2 hw (by decide)) (by decide) (by decide)
    first | refine ri_aload_n C dX4_printProverb_84 rfl ?_ | refine ri_aload_nQ C dX4_printProverb_84 rfl ?_ | refine ri_aload_nN C dX4_printProverb_84 rfl ?_
    first | refine ri_aload_n C dX4_printProverb_85 rfl ?_ | refine ri_aload_nQ C dX4_printProverb_85 rfl ?_ | refine ri_aload_nN C dX4_printProverb_85 rfl ?_
    refine ri_iload_n C dX4_printProverb_86 rfl ?_
    refine ri_iconst C dX4_printProverb_87 kc_i4 ?_
    refine ri_callV C km_X4_of q3140 qs75 dX4_printProverb_88 (mt_X4_of htr b81 w81 (by omega)) rfl rfl (kx_rcN C (by first | assumption | (repeat (first | assumption | exact kx_rs (by assumption) | exact kx_ne2 (by omega) | exact kx_ne1 (by omega) | refine kx_ro (by assumption) ?_ ?_ | exact kx_rs rfl | refine kx_ro rfl ?_ ?_))) rfl) ⟨⟨(Nat.le_of_ble_eq_true rfl), (Nat.le_of_ble_eq_true rfl)⟩, (Nat.le_of_ble_eq_true rfl), (Nat.le_of_ble_eq_true rfl), (Nat.le_of_ble_eq_true rfl)⟩ (fun v88 s88 h88 => ?_) (fun _ _ _ h => h.elim)
    obtain ⟨rfl, rfl⟩ := h88
    refine ri_callV C km_X4_writeNumber q3542 qs131 dX4_printProverb_91 (mt_X4_writeNumber htr E81 (by simp only [List.length_append, List.length_cons, List.length_nil]; omega) (by omega)) rfl rfl (kx_rcN C (by first | assumption | (repeat (first | assumption | exact kx_rs (by assumption) | exact kx_ne2 (by omega) | exact kx_ne1 (by omega) | refine kx_ro (by assumption) ?_ ?_ | exact kx_rs rfl | refine kx_ro rfl ?_ ?_))) rfl) ⟨⟨(Nat.le_of_ble_eq_true rfl), (Nat.le_of_ble_eq_true rfl)⟩, (Nat.le_of_ble_eq_true rfl), (Nat.le_of_ble_eq_true rfl), (Nat.le_of_ble_eq_true rfl)⟩ (fun v91 s91 h91 => ?_) (fun _ _ _ h => h.elim)
    obtain ⟨rfl, E91⟩ := h91
    replace E91 := mo_W_n E91
    have b91 := mo_W_0e E91
    have w91 := mo_W_oe E91 (kx_ro e2 hw (by decide)) (by decide) (by decide)
    first | refine ri_aload_n C dX4_printProverb_94 rfl ?_ | refine ri_aload_nQ C dX4_printProverb_94 rfl ?_ | refine ri_aload_nN C dX4_printProverb_94 rfl ?_
    refine ri_bipush C dX4_printProverb_95 kc_b61 ?_
    refine ri_callV C km_X4_write q3534 qs130 dX4_printProverb_97 (mt_X4_write htr E91 (by simp only [List.length_append, List.length_cons, List.length_nil]; omega)) rfl rfl (kx_rcN C (by first | assumption | (repeat (first | assumption | exact kx_rs (by assumption) | exact kx_ne2 (by omega) | exact kx_ne1 (by omega) | refine kx_ro (by assumption) ?_ ?_ | exact kx_rs rfl | refine kx_ro rfl ?_ ?_))) rfl) ⟨⟨(Nat.le_of_ble_eq_true rfl), (Nat.le_of_ble_eq_true rfl)⟩, (Nat.le_of_ble_eq_true rfl), (Nat.le_of_ble_eq_true rfl), (Nat.le_of_ble_eq_true rfl)⟩ (fun v97 s97 h97 => ?_) (fun _ _ _ h => h.elim)
    obtain ⟨rfl, E97⟩ := h97
    replace E97 := mo_W_w E97
    have b97 := mo_W_0e E97
    have w97 := mo_W_oe E97 (kx_ro e2 hw (by decide)) (by decide) (by decide)
    first | refine ri_aload_n C dX4_printProverb_100 rfl ?_ | refine ri_aload_nQ C dX4_printProverb_100 rfl ?_ | refine ri_aload_nN C dX4_printProverb_100 rfl ?_
    first | refine ri_aload_n C dX4_printProverb_101 rfl ?_ | refine ri_aload_nQ C dX4_printProverb_101 rfl ?_ | refine ri_aload_nN C dX4_printProverb_101 rfl ?_
    refine ri_iload_n C dX4_printProverb_102 rfl ?_
    refine ri_bipush C dX4_printProverb_103 kc_b6 ?_
    refine ri_callV C km_X4_of q3140 qs75 dX4_printProverb_105 (mt_X4_of htr b97 w97 (by omega)) rfl rfl (kx_rcN C (by first | assumption | (repeat (first | assumption | exact kx_rs (by assumption) | exact kx_ne2 (by omega) | exact kx_ne1 (by omega) | refine kx_ro (by assumption) ?_ ?_ | exact kx_rs rfl | refine kx_ro rfl ?_ ?_))) rfl) ⟨⟨(Nat.le_of_ble_eq_true rfl), (Nat.le_of_ble_eq_true rfl)⟩, (Nat.le_of_ble_eq_true rfl), (Nat.le_of_ble_eq_true rfl), (Nat.le_of_ble_eq_true rfl)⟩ (fun v105 s105 h105 => ?_) (fun _ _ _ h => h.elim)
    obtain ⟨rfl, rfl⟩ := h105
    refine ri_callV C km_X4_writeNumber q3542 qs131 dX4_printProverb_108 (mt_X4_writeNumber htr E97 (by simp only [List.length_append, List.length_cons, List.length_nil]; omega) (by omega)) rfl rfl (kx_rcN C (by first | assumption | (repeat (first | assumption | exact kx_rs (by assumption) | exact kx_ne2 (by omega) | exact kx_ne1 (by omega) | refine kx_ro (by assumption) ?_ ?_ | exact kx_rs rfl | refine kx_ro rfl ?_ ?_))) rfl) ⟨⟨(Nat.le_of_ble_eq_true rfl), (Nat.le_of_ble_eq_true rfl)⟩, (Nat.le_of_ble_eq_true rfl), (Nat.le_of_ble_eq_true rfl), (Nat.le_of_ble_eq_true rfl)⟩ (fun v108 s108 h108 => ?_) (fun _ _ _ h => h.elim)
    obtain ⟨rfl, E108⟩ := h108
    replace E108 := mo_W_n E108
    have b108 := mo_W_0e E108
    have w108 := mo_W_oe E108 (kx_ro e2 hw (by decide)) (by decide) (by decide)
    first | refine ri_aload_n C dX4_printProverb_111 rfl ?_ | refine ri_aload_nQ C dX4_printProverb_111 rfl ?_ | refine ri_aload_nN C dX4_printProverb_111 rfl ?_
    refine ri_iload_n C dX4_printProverb_112 rfl ?_
    refine ri_callV C km_X4_isLive q3144 qs76 dX4_printProverb_113 (mt_X4_isLive htr b108 w108 (by omega) (by omega)) rfl rfl (kx_rcN C (by first | assumption | (repeat (first | assumption | exact kx_rs (by assumption) | exact kx_ne2 (by omega) | exact kx_ne1 (by omega) | refine kx_ro (by assumption) ?_ ?_ | exact kx_rs rfl | refine kx_ro rfl ?_ ?_))) rfl) ⟨⟨(Nat.le_of_ble_eq_true rfl), (Nat.le_of_ble_eq_true rfl)⟩, (Nat.le_of_ble_eq_true rfl), (Nat.le_of_ble_eq_true rfl), (Nat.le_of_ble_eq_true rfl)⟩ (fun v113 s113 h113 => ?_) (fun _ _ _ h => h.elim)
    obtain ⟨rfl, rfl⟩ := h113
    first | refine ri_if_neB C 125 dX4_printProverb_116 rfl (fun h116 => ?_) (fun h116 => ?_) | refine ri_if_neN C 125 dX4_printProverb_116 rfl (by omega) (fun h116 => ?_) (fun h116 => ?_) | refine ri_if_ne C 125 dX4_printProverb_116 rfl (fun h116 => ?_) (fun h116 => ?_)
    · first | refine ri_aload_n C dX4_printProverb_125 rfl ?_ | refine ri_aload_nQ C dX4_printProverb_125 rfl ?_ | refine ri_aload_nN C dX4_printProverb_125 rfl ?_
      refine ri_getf C dX4_printProverb_126 fr_q2997_3 (by first | assumption | (repeat (first | assumption | exact kx_rs (by assumption) | exact kx_ne2 (by omega) | exact kx_ne1 (by omega) | refine kx_ro (by assumption) ?_ ?_ | exact kx_rs rfl | refine kx_ro rfl ?_ ?_))) (by rfl) ?_
      rw [mo_z_s]
      refine ri_iret C hQ dX4_printProverb_129 rfl (Nat.le_of_ble_eq_true rfl) (Nat.le_of_ble_eq_true rfl) ?_
      refine ⟨?_, fun _ => ?_, fun h => ?_⟩
      · simp only [an_prP, an_c, c1, cond_true, nk1, pr_p, h116] <;> first | rfl | (simp only [if_true, List.append_nil]; done) | (simp; done)
      · rw [nk1]; first | (rw [E122, e2]; simp only [pr_p, h116]; first | rfl | (simp; done)) | (rw [E108, e2]; simp only [pr_p, h116, if_true, List.append_nil])
      · simp only [an_prP, an_c, c1, cond_true] at h; exact absurd rfl h
    · first | refine ri_aload_n C dX4_printProverb_119 rfl ?_ | refine ri_aload_nQ C dX4_printProverb_119 rfl ?_ | refine ri_aload_nN C dX4_printProverb_119 rfl ?_
      refine ri_bipush C dX4_printProverb_120 kc_b120 ?_
      refine ri_callV C km_X4_write q3534 qs130 dX4_printProverb_122 (mt_X4_write htr E108 (by simp only [List.length_append, List.length_cons, List.length_nil]; omega)) rfl rfl (kx_rcN C (by first | assumption | (repeat (first | assumption | exact kx_rs (by assumption) | exact kx_ne2 (by omega) | exact kx_ne1 (by omega) | refine kx_ro (by assumption) ?_ ?_ | exact kx_rs rfl | refine kx_ro rfl ?_ ?_))) rfl) ⟨⟨(Nat.le_of_ble_eq_true rfl), (Nat.le_of_ble_eq_true rfl)⟩, (Nat.le_of_ble_eq_true rfl), (Nat.le_of_ble_eq_true rfl), (Nat.le_of_ble_eq_true rfl)⟩ (fun v122 s122 h122 => ?_) (fun _ _ _ h => h.elim)
      obtain ⟨rfl, E122⟩ := h122
      replace E122 := mo_W_w E122
      have b122 := mo_W_0e E122
      have w122 := mo_W_oe E122 (kx_ro e2 hw (by decide)) (by decide) (by decide)
      first | refine ri_aload_n C dX4_printProverb_125 rfl ?_ | refine ri_aload_nQ C dX4_printProverb_125 rfl ?_ | refine ri_aload_nN C dX4_printProverb_125 rfl ?_
      refine ri_getf C dX4_printProverb_126 fr_q2997_3 (by first | assumption | (repeat (first | assumption | exact kx_rs (by assumption) | exact kx_ne2 (by omega) | exact kx_ne1 (by omega) | refine kx_ro (by assumption) ?_ ?_ | exact kx_rs rfl | refine kx_ro rfl ?_ ?_))) (by rfl) ?_
      rw [mo_z_s]
      refine ri_iret C hQ dX4_printProverb_129 rfl (Nat.le_of_ble_eq_true rfl) (Nat.le_of_ble_eq_true rfl) ?_
      refine ⟨?_, fun _ => ?_, fun h => ?_⟩
      · simp only [an_prP, an_c, c1, cond_true, nk1, pr_p, h116] <;> first | rfl | (simp only [if_true, List.append_nil]; done) | (simp; done)
      · rw [nk1]; first | (rw [E122, e2]; simp only [pr_p, h116]; first | rfl | (simp; done)) | (rw [E108, e2]; simp only [pr_p, h116, if_true, List.append_nil])
      · simp only [an_prP, an_c, c1, cond_true] at h; exact absurd rfl h
  · have c1 : mx_ix x (u 0) = false := kx_bn_t h10
    rw [c1, cond_false] at e7
    refine ri_iconst C dX4_printProverb_13 kc_i0 ?_
    exact ri_iret C hQ dX4_printProverb_14 rfl (Nat.le_of_ble_eq_true rfl) (Nat.le_of_ble_eq_true rfl) (by (refine ⟨by simp only [an_prP, an_c, c1, Bool.and_true, Bool.and_false, Bool.true_and, Bool.false_and, Bool.not_true, Bool.not_false, cond_true, cond_false] <;> rfl, fun h => ?_, fun _ => ?_⟩; (simp only [an_prP, an_c, c1, Bool.and_true, Bool.and_false, Bool.true_and, Bool.false_and, Bool.not_true, Bool.not_false, cond_true, cond_false] at h; exact absurd h (by decide)); (simp only [an_prP, an_c, c1, Bool.and_true, Bool.and_false, Bool.true_and, Bool.false_and, Bool.not_true, Bool.not_false, cond_true, cond_false]; first | assumption | exact mo_e2 (by assumption) (by assumption))))
def mo_sav (G : kx_G) (σ : kx_H) (mo : Nat) (ad : Nat → Nat) (z : Nat → Int32) (u : Nat → Nat) (S L M : Nat → Int32) : kx_H :=
  kx_up (kx_up (kx_up σ (1, 4) (ad 3, kx_ai G 1417 (va_cpy (mx_w u) S 0 0 1417))) (1, 7) (ad 6, kx_ai G 2160 (fun j => if j < 2160 then L j else M j))) (1, 0) (mo, .inr (3, mo_L ad (mo_z z 8 (nI 1))))
def mo_rst (G : kx_G) (σ : kx_H) (mo : Nat) (ad : Nat → Nat) (z : Nat → Int32) (u s : Nat → Nat) (L M : Nat → Int32) : kx_H :=
  kx_up (kx_up (kx_up σ (1, 1) (ad 0, kx_ai G 1417 (mx_w (mx_cut s u)))) (1, 6) (ad 5, kx_ai G 2160 (fun j => if j < 2160 then M j else L j))) (1, 0) (mo, .inr (3, mo_L ad (mo_z z 7 (nI 0))))
set_option maxHeartbeats 1000000 in
theorem mt_X4_saveState {l : Launch} {G : kx_G} (htr : l.stackTraces = false) {σ : kx_H} {mo : Nat} {ad : Nat → Nat} {z : Nat → Int32} {u : Nat → Nat} (h0 : σ (1, 0) = some (mo, .inr (3, mo_L ad z))) (hw : σ (1, 1) = some (ad 0, kx_ai G 1417 (mx_w u))) {S : Nat → Int32} (hs : σ (1, 4) = some (ad 3, kx_ai G 1417 S)) {L M : Nat → Int32} (hl : σ (1, 6) = some (ad 5, kx_ai G 2160 L)) (hm : σ (1, 7) = some (ad 6, kx_ai G 2160 M)) : kx_SP l G yX4_saveState (ws_ yX4_saveState cX4_saveState 2 (some .int)) 3 0 0 [.ref mo] σ (fun v τ => v = some (.int (nI (u 2))) ∧ τ = mo_sav G (kx_up σ (1, 0) (mo, .inr (3, mo_L ad (mo_z z 9 (nI 0))))) mo ad (mo_z z 9 (nI 0)) u S L M) kx_nx := by
  refine kx_body htr (by decide +kernel) (own := "RoseProverbsModel") (nm := "saveState") rfl rfl (Nat.le_of_ble_eq_true rfl) ?_
  intro p e s m args below meth c Q C hQ
  first | refine ri_aload_n C dX4_saveState_0 rfl ?_ | refine ri_aload_nQ C dX4_saveState_0 rfl ?_ | refine ri_aload_nN C dX4_saveState_0 rfl ?_
  refine ri_iconst C dX4_saveState_1 kc_i0 ?_
  refine ri_putf C dX4_saveState_2 fd_q2979_3 (fun h => nomatch h) (by first | assumption | (repeat (first | assumption | exact kx_rs (by assumption) | exact kx_ne2 (by omega) | exact kx_ne1 (by omega) | refine kx_ro (by assumption) ?_ ?_ | exact kx_rs rfl | refine kx_ro rfl ?_ ?_))) (Nat.le_of_ble_eq_true rfl) (by rfl) (by rfl) mo_set9 (fun s2 e2 => ?_)
  first | refine ri_aload_n C dX4_saveState_5 rfl ?_ | refine ri_aload_nQ C dX4_saveState_5 rfl ?_ | refine ri_aload_nN C dX4_saveState_5 rfl ?_
  refine ri_getf C dX4_saveState_6 fr_q2970_3 (by first | assumption | (repeat (first | assumption | exact kx_rs (by assumption) | exact kx_ne2 (by omega) | exact kx_ne1 (by omega) | refine kx_ro (by assumption) ?_ ?_ | exact kx_rs rfl | refine kx_ro rfl ?_ ?_))) (by rfl) ?_
  refine ri_iconst C dX4_saveState_9 kc_i0 ?_
  first | refine ri_aload_n C dX4_saveState_10 rfl ?_ | refine ri_aload_nQ C dX4_saveState_10 rfl ?_ | refine ri_aload_nN C dX4_saveState_10 rfl ?_
  refine ri_getf C dX4_saveState_11 fr_q2973_3 (by first | assumption | (repeat (first | assumption | exact kx_rs (by assumption) | exact kx_ne2 (by omega) | exact kx_ne1 (by omega) | refine kx_ro (by assumption) ?_ ?_ | exact kx_rs rfl | refine kx_ro rfl ?_ ?_))) (by rfl) ?_
  refine ri_iconst C dX4_saveState_14 kc_i0 ?_
  refine ri_callS C km_X4_copies q3078 dX4_saveState_15 (mt_X4_copies htr (tf := (1, 1)) (tt := (1, 4)) (by first | assumption | (repeat (first | assumption | exact kx_rs (by assumption) | exact kx_ne2 (by omega) | exact kx_ne1 (by omega) | refine kx_ro (by assumption) ?_ ?_ | exact kx_rs rfl | refine kx_ro rfl ?_ ?_))) (by first | assumption | (repeat (first | assumption | exact kx_rs (by assumption) | exact kx_ne2 (by omega) | exact kx_ne1 (by omega) | refine kx_ro (by assumption) ?_ ?_ | exact kx_rs rfl | refine kx_ro rfl ?_ ?_))) (by decide) (x := 0) (y := 0) (by omega) (by omega)) rfl rfl ⟨⟨(Nat.le_of_ble_eq_true rfl), (Nat.le_of_ble_eq_true rfl)⟩, (Nat.le_of_ble_eq_true rfl), (Nat.le_of_ble_eq_true rfl), (Nat.le_of_ble_eq_true rfl)⟩ (fun v15 s15 h15 => ?_) (fun _ _ _ h => h.elim)
  obtain ⟨rfl, e15⟩ := h15
  refine ri_iconst C dX4_saveState_18 kc_i0 ?_
  refine ri_istore_n C dX4_saveState_19 rfl (by decide) ?_
  have LP : ∀ (wk i : Nat) (τ : kx_H), i ≤ 2160 → 2160 < i + wk → τ = kx_up s15 (1, 7) (ad 6, kx_ai G 2160 (fun j => if j < i then L j else M j)) → kx_V G l p e (kx_rm 3 0 0) s m args below meth c 2 Q 20 [(0, .ref mo), (1, .int (nI i))] [] τ 0 0 := by
    intro wk
    induction wk with
    | zero => intro i τ h1 h2; exact absurd h2 (by omega)
    | succ wk ih =>
      intro i τ hi hwk hI
      refine ri_iload_n C dX4_saveState_20 rfl ?_
      refine ri_sipush C dX4_saveState_21 kc_s2160 ?_
      first | refine ri_icmp_geN C 45 dX4_saveState_24 rfl (by omega) (by omega) (fun h24 => ?_) (fun h24 => ?_) | refine ri_icmp_ge C 45 dX4_saveState_24 rfl (fun h24 => ?_) (fun h24 => ?_)
      · obtain rfl : i = 2160 := by omega
        first | refine ri_aload_n C dX4_saveState_45 rfl ?_ | refine ri_aload_nQ C dX4_saveState_45 rfl ?_ | refine ri_aload_nN C dX4_saveState_45 rfl ?_
        refine ri_iconst C dX4_saveState_46 kc_i1 ?_
        refine ri_putf C dX4_saveState_47 fd_q2978_3 (fun h => nomatch h) (by first | assumption | (repeat (first | assumption | exact kx_rs (by assumption) | exact kx_ne2 (by omega) | exact kx_ne1 (by omega) | refine kx_ro (by assumption) ?_ ?_ | exact kx_rs rfl | refine kx_ro rfl ?_ ?_))) (Nat.le_of_ble_eq_true rfl) rfl (by rfl) mo_set8 (fun s47 e47 => ?_)
        first | refine ri_aload_n C dX4_saveState_50 rfl ?_ | refine ri_aload_nQ C dX4_saveState_50 rfl ?_ | refine ri_aload_nN C dX4_saveState_50 rfl ?_
        refine ri_getf C dX4_saveState_51 fr_q2970_3 (by first | assumption | (repeat (first | assumption | exact kx_rs (by assumption) | exact kx_ne2 (by omega) | exact kx_ne1 (by omega) | refine kx_ro (by assumption) ?_ ?_ | exact kx_rs rfl | refine kx_ro rfl ?_ ?_))) (by rfl) ?_
        refine ri_iconst C dX4_saveState_54 kc_i2 ?_
        first | refine ri_ialoadN C dX4_saveState_55 (by first | assumption | (repeat (first | assumption | exact kx_rs (by assumption) | exact kx_ne2 (by omega) | exact kx_ne1 (by omega) | refine kx_ro (by assumption) ?_ ?_ | exact kx_rs rfl | refine kx_ro rfl ?_ ?_))) rfl (by omega) ?_ | refine ri_iaload C dX4_saveState_55 (by first | assumption | (repeat (first | assumption | exact kx_rs (by assumption) | exact kx_ne2 (by omega) | exact kx_ne1 (by omega) | refine kx_ro (by assumption) ?_ ?_ | exact kx_rs rfl | refine kx_ro rfl ?_ ?_))) rfl (by omega) ?_
        exact ri_iret C hQ dX4_saveState_56 rfl (Nat.le_of_ble_eq_true rfl) (Nat.le_of_ble_eq_true rfl) ⟨rfl, by rw [e47, hI, e15, e2]; rfl⟩
      · first | refine ri_aload_n C dX4_saveState_27 rfl ?_ | refine ri_aload_nQ C dX4_saveState_27 rfl ?_ | refine ri_aload_nN C dX4_saveState_27 rfl ?_
        refine ri_getf C dX4_saveState_28 fr_q2976_3 (by first | assumption | (repeat (first | assumption | exact kx_rs (by assumption) | exact kx_ne2 (by omega) | exact kx_ne1 (by omega) | refine kx_ro (by assumption) ?_ ?_ | exact kx_rs rfl | refine kx_ro rfl ?_ ?_))) (by rfl) ?_
        refine ri_iload_n C dX4_saveState_31 rfl ?_
        first | refine ri_aload_n C dX4_saveState_32 rfl ?_ | refine ri_aload_nQ C dX4_saveState_32 rfl ?_ | refine ri_aload_nN C dX4_saveState_32 rfl ?_
        refine ri_getf C dX4_saveState_33 fr_q2975_3 (by first | assumption | (repeat (first | assumption | exact kx_rs (by assumption) | exact kx_ne2 (by omega) | exact kx_ne1 (by omega) | refine kx_ro (by assumption) ?_ ?_ | exact kx_rs rfl | refine kx_ro rfl ?_ ?_))) (by rfl) ?_
        refine ri_iload_n C dX4_saveState_36 rfl ?_
        refine ri_iaload C dX4_saveState_37 (by first | assumption | (repeat (first | assumption | exact kx_rs (by assumption) | exact kx_ne2 (by omega) | exact kx_ne1 (by omega) | refine kx_ro (by assumption) ?_ ?_ | exact kx_rs rfl | refine kx_ro rfl ?_ ?_))) rfl (by omega) ?_
        refine ri_iastore C dX4_saveState_38 (by first | assumption | (repeat (first | assumption | exact kx_rs (by assumption) | exact kx_ne2 (by omega) | exact kx_ne1 (by omega) | refine kx_ro (by assumption) ?_ ?_ | exact kx_rs rfl | refine kx_ro rfl ?_ ?_))) rfl (by omega) (fun s38 e38 => ?_)
        first | refine ri_iincN C dX4_saveState_39 rfl rfl (by decide) ?_ | refine ri_iinc C dX4_saveState_39 rfl rfl rfl (by decide) ?_
        refine ri_goto C 20 dX4_saveState_42 rfl ?_
        refine ri_lv2 (ih (i + 1) _ (by omega) (by omega) ?_) ⟨rfl, rfl, trivial⟩
        rw [e38, hI, kx_up_u]
        refine congrArg (fun f => kx_up s15 (1, 7) (ad 6, kx_ai G 2160 f)) ?_
        funext j
        simp only [upd]
        by_cases c : j = i
        · subst c; rw [if_pos rfl, if_pos (by omega)]
        · rw [if_neg c]
          by_cases d : j < i
          · rw [if_pos d, if_pos (by omega)]
          · rw [if_neg d, if_neg (by omega)]
  refine ri_lv2 (LP 2161 0 _ (by omega) (by omega) ?_) ⟨rfl, rfl, trivial⟩
  simp only [Nat.not_lt_zero, if_false]; exact (kx_up_i (by first | assumption | (repeat (first | assumption | exact kx_rs (by assumption) | exact kx_ne2 (by omega) | exact kx_ne1 (by omega) | refine kx_ro (by assumption) ?_ ?_ | exact kx_rs rfl | refine kx_ro rfl ?_ ?_)))).symm
set_option maxHeartbeats 1000000 in
theorem mt_X4_restoreState {l : Launch} {G : kx_G} (htr : l.stackTraces = false) {σ : kx_H} {mo : Nat} {ad : Nat → Nat} {z : Nat → Int32} {u : Nat → Nat} {b : Bool} {s : Nat → Nat} (h0 : σ (1, 0) = some (mo, .inr (3, mo_L ad z))) (hw : σ (1, 1) = some (ad 0, kx_ai G 1417 (mx_w u))) {S : Nat → Int32} (hs : σ (1, 4) = some (ad 3, kx_ai G 1417 S)) {L M : Nat → Int32} (hl : σ (1, 6) = some (ad 5, kx_ai G 2160 L)) (hm : σ (1, 7) = some (ad 6, kx_ai G 2160 M)) (hz : z 8 = kx_b b) (hr : mx_r S 0 s) : kx_SP l G yX4_restoreState (ws_ yX4_restoreState cX4_restoreState 2 (some .int)) 3 0 0 [.ref mo] σ (fun v τ => v = some (.int (bif b then nI (mx_cut s u 2) else 0)) ∧ (b = true → τ = mo_rst G (kx_up σ (1, 0) (mo, .inr (3, mo_L ad (mo_z z 9 (nI 0))))) mo ad (mo_z z 9 (nI 0)) u s L M) ∧ (b = false → τ = kx_up σ (1, 0) (mo, .inr (3, mo_L ad (mo_z z 9 (nI 1)))))) kx_nx := by
  refine kx_body htr (by decide +kernel) (own := "RoseProverbsModel") (nm := "restoreState") rfl rfl (Nat.le_of_ble_eq_true rfl) ?_
  intro p e s m args below meth c Q C hQ
  first | refine ri_aload_n C dX4_restoreState_0 rfl ?_ | refine ri_aload_nQ C dX4_restoreState_0 rfl ?_ | refine ri_aload_nN C dX4_restoreState_0 rfl ?_
  refine ri_iconst C dX4_restoreState_1 kc_i0 ?_
  refine ri_putf C dX4_restoreState_2 fd_q2979_3 (fun h => nomatch h) (by first | assumption | (repeat (first | assumption | exact kx_rs (by assumption) | exact kx_ne2 (by omega) | exact kx_ne1 (by omega) | refine kx_ro (by assumption) ?_ ?_ | exact kx_rs rfl | refine kx_ro rfl ?_ ?_))) (Nat.le_of_ble_eq_true rfl) (by rfl) (by rfl) mo_set9 (fun s2 e2 => ?_)
  cases c1 : b
  · first | refine ri_aload_n C dX4_restoreState_5 rfl ?_ | refine ri_aload_nQ C dX4_restoreState_5 rfl ?_ | refine ri_aload_nN C dX4_restoreState_5 rfl ?_
    first | refine ri_aload_n C dX4_restoreState_6 rfl ?_ | refine ri_aload_nQ C dX4_restoreState_6 rfl ?_ | refine ri_aload_nN C dX4_restoreState_6 rfl ?_
    refine ri_getf C dX4_restoreState_7 fr_q2978_3 (by first | assumption | (repeat (first | assumption | exact kx_rs (by assumption) | exact kx_ne2 (by omega) | exact kx_ne1 (by omega) | refine kx_ro (by assumption) ?_ ?_ | exact kx_rs rfl | refine kx_ro rfl ?_ ?_))) (by rfl) ?_
    rw [show mo_z z 9 (nI 0) 8 = kx_b b from hz, c1]
    first | refine ri_if_neB C 17 dX4_restoreState_10 rfl (fun h10 => ?_) (fun h10 => ?_) | refine ri_if_neN C 17 dX4_restoreState_10 rfl (by omega) (fun h10 => ?_) (fun h10 => ?_) | refine ri_if_ne C 17 dX4_restoreState_10 rfl (fun h10 => ?_) (fun h10 => ?_)
    · exact absurd h10 (by decide) --dead
    · refine ri_iconst C dX4_restoreState_13 kc_i1 ?_
      refine ri_goto C 18 dX4_restoreState_14 rfl ?_
      refine ri_iconst C dX4_restoreState_18 kc_i1 ?_
      refine ri_callV C km_X4_fails q3303 qs106 dX4_restoreState_19 (mt_X4_fails htr (b := true) (by first | assumption | (repeat (first | assumption | exact kx_rs (by assumption) | exact kx_ne2 (by omega) | exact kx_ne1 (by omega) | refine kx_ro (by assumption) ?_ ?_ | exact kx_rs rfl | refine kx_ro rfl ?_ ?_)))) rfl rfl (kx_rcN C (by first | assumption | (repeat (first | assumption | exact kx_rs (by assumption) | exact kx_ne2 (by omega) | exact kx_ne1 (by omega) | refine kx_ro (by assumption) ?_ ?_ | exact kx_rs rfl | refine kx_ro rfl ?_ ?_))) rfl) ⟨⟨(Nat.le_of_ble_eq_true rfl), (Nat.le_of_ble_eq_true rfl)⟩, (Nat.le_of_ble_eq_true rfl), (Nat.le_of_ble_eq_true rfl), (Nat.le_of_ble_eq_true rfl)⟩ (fun v19 s19 h19 => ?_) (fun _ _ _ h => h.elim)
      obtain ⟨rfl, e19⟩ := h19
      rw [cond_true] at e19
      first | refine ri_if_eqB C 27 dX4_restoreState_22 rfl (fun h22 => ?_) (fun h22 => ?_) | refine ri_if_eqN C 27 dX4_restoreState_22 rfl (by omega) (fun h22 => ?_) (fun h22 => ?_) | refine ri_if_eq C 27 dX4_restoreState_22 rfl (fun h22 => ?_) (fun h22 => ?_)
      · exact absurd h22 (by decide) --dead
      · refine ri_iconst C dX4_restoreState_25 kc_i0 ?_
        exact ri_iret C hQ dX4_restoreState_26 rfl (Nat.le_of_ble_eq_true rfl) (Nat.le_of_ble_eq_true rfl) ⟨by rw [c1]; rfl, (fun h => by rw [c1] at h; exact absurd h (by decide)), fun _ => mo_e2 (by assumption) (by assumption)⟩
  · first | refine ri_aload_n C dX4_restoreState_5 rfl ?_ | refine ri_aload_nQ C dX4_restoreState_5 rfl ?_ | refine ri_aload_nN C dX4_restoreState_5 rfl ?_
    first | refine ri_aload_n C dX4_restoreState_6 rfl ?_ | refine ri_aload_nQ C dX4_restoreState_6 rfl ?_ | refine ri_aload_nN C dX4_restoreState_6 rfl ?_
    refine ri_getf C dX4_restoreState_7 fr_q2978_3 (by first | assumption | (repeat (first | assumption | exact kx_rs (by assumption) | exact kx_ne2 (by omega) | exact kx_ne1 (by omega) | refine kx_ro (by assumption) ?_ ?_ | exact kx_rs rfl | refine kx_ro rfl ?_ ?_))) (by rfl) ?_
    rw [show mo_z z 9 (nI 0) 8 = kx_b b from hz, c1]
    first | refine ri_if_neB C 17 dX4_restoreState_10 rfl (fun h10 => ?_) (fun h10 => ?_) | refine ri_if_neN C 17 dX4_restoreState_10 rfl (by omega) (fun h10 => ?_) (fun h10 => ?_) | refine ri_if_ne C 17 dX4_restoreState_10 rfl (fun h10 => ?_) (fun h10 => ?_)
    · refine ri_iconst C dX4_restoreState_17 kc_i0 ?_
      refine ri_iconst C dX4_restoreState_18 kc_i1 ?_
      refine ri_callV C km_X4_fails q3303 qs106 dX4_restoreState_19 (mt_X4_fails htr (b := false) (by first | assumption | (repeat (first | assumption | exact kx_rs (by assumption) | exact kx_ne2 (by omega) | exact kx_ne1 (by omega) | refine kx_ro (by assumption) ?_ ?_ | exact kx_rs rfl | refine kx_ro rfl ?_ ?_)))) rfl rfl (kx_rcN C (by first | assumption | (repeat (first | assumption | exact kx_rs (by assumption) | exact kx_ne2 (by omega) | exact kx_ne1 (by omega) | refine kx_ro (by assumption) ?_ ?_ | exact kx_rs rfl | refine kx_ro rfl ?_ ?_))) rfl) ⟨⟨(Nat.le_of_ble_eq_true rfl), (Nat.le_of_ble_eq_true rfl)⟩, (Nat.le_of_ble_eq_true rfl), (Nat.le_of_ble_eq_true rfl), (Nat.le_of_ble_eq_true rfl)⟩ (fun v19 s19 h19 => ?_) (fun _ _ _ h => h.elim)
      obtain ⟨rfl, e19⟩ := h19
      rw [cond_false] at e19
      subst e19
      first | refine ri_if_eqB C 27 dX4_restoreState_22 rfl (fun h22 => ?_) (fun h22 => ?_) | refine ri_if_eqN C 27 dX4_restoreState_22 rfl (by omega) (fun h22 => ?_) (fun h22 => ?_) | refine ri_if_eq C 27 dX4_restoreState_22 rfl (fun h22 => ?_) (fun h22 => ?_)
      · first | refine ri_aload_n C dX4_restoreState_27 rfl ?_ | refine ri_aload_nQ C dX4_restoreState_27 rfl ?_ | refine ri_aload_nN C dX4_restoreState_27 rfl ?_
        refine ri_getf C dX4_restoreState_28 fr_q2973_3 (by first | assumption | (repeat (first | assumption | exact kx_rs (by assumption) | exact kx_ne2 (by omega) | exact kx_ne1 (by omega) | refine kx_ro (by assumption) ?_ ?_ | exact kx_rs rfl | refine kx_ro rfl ?_ ?_))) (by rfl) ?_
        refine ri_iconst C dX4_restoreState_31 kc_i0 ?_
        first | refine ri_aload_n C dX4_restoreState_32 rfl ?_ | refine ri_aload_nQ C dX4_restoreState_32 rfl ?_ | refine ri_aload_nN C dX4_restoreState_32 rfl ?_
        refine ri_getf C dX4_restoreState_33 fr_q2970_3 (by first | assumption | (repeat (first | assumption | exact kx_rs (by assumption) | exact kx_ne2 (by omega) | exact kx_ne1 (by omega) | refine kx_ro (by assumption) ?_ ?_ | exact kx_rs rfl | refine kx_ro rfl ?_ ?_))) (by rfl) ?_
        refine ri_iconst C dX4_restoreState_36 kc_i0 ?_
        refine ri_callS C km_X4_copies q3078 dX4_restoreState_37 (mt_X4_copies htr (tf := (1, 4)) (tt := (1, 1)) (by first | assumption | (repeat (first | assumption | exact kx_rs (by assumption) | exact kx_ne2 (by omega) | exact kx_ne1 (by omega) | refine kx_ro (by assumption) ?_ ?_ | exact kx_rs rfl | refine kx_ro rfl ?_ ?_))) (by first | assumption | (repeat (first | assumption | exact kx_rs (by assumption) | exact kx_ne2 (by omega) | exact kx_ne1 (by omega) | refine kx_ro (by assumption) ?_ ?_ | exact kx_rs rfl | refine kx_ro rfl ?_ ?_))) (by decide) (x := 0) (y := 0) (by omega) (by omega)) rfl rfl ⟨⟨(Nat.le_of_ble_eq_true rfl), (Nat.le_of_ble_eq_true rfl)⟩, (Nat.le_of_ble_eq_true rfl), (Nat.le_of_ble_eq_true rfl), (Nat.le_of_ble_eq_true rfl)⟩ (fun v37 s37 h37 => ?_) (fun _ _ _ h => h.elim)
        obtain ⟨rfl, e37⟩ := h37
        rw [mx_cut_w hr] at e37
        refine ri_iconst C dX4_restoreState_40 kc_i0 ?_
        refine ri_istore_n C dX4_restoreState_41 rfl (by decide) ?_
        have LP : ∀ (wk i : Nat) (τ : kx_H), i ≤ 2160 → 2160 < i + wk → τ = kx_up s37 (1, 6) (ad 5, kx_ai G 2160 (fun j => if j < i then M j else L j)) → kx_V G l p e (kx_rm 3 0 0) s m args below meth c 2 Q 42 [(0, .ref mo), (1, .int (nI i))] [] τ 0 0 := by
          intro wk
          induction wk with
          | zero => intro i τ h1 h2; exact absurd h2 (by omega)
          | succ wk ih =>
            intro i τ hi hwk hI
            refine ri_iload_n C dX4_restoreState_42 rfl ?_
            refine ri_sipush C dX4_restoreState_43 kc_s2160 ?_
            first | refine ri_icmp_geN C 67 dX4_restoreState_46 rfl (by omega) (by omega) (fun h46 => ?_) (fun h46 => ?_) | refine ri_icmp_ge C 67 dX4_restoreState_46 rfl (fun h46 => ?_) (fun h46 => ?_)
            · obtain rfl : i = 2160 := by omega
              first | refine ri_aload_n C dX4_restoreState_67 rfl ?_ | refine ri_aload_nQ C dX4_restoreState_67 rfl ?_ | refine ri_aload_nN C dX4_restoreState_67 rfl ?_
              refine ri_iconst C dX4_restoreState_68 kc_i0 ?_
              refine ri_putf C dX4_restoreState_69 fd_q2977_3 (fun h => nomatch h) (by first | assumption | (repeat (first | assumption | exact kx_rs (by assumption) | exact kx_ne2 (by omega) | exact kx_ne1 (by omega) | refine kx_ro (by assumption) ?_ ?_ | exact kx_rs rfl | refine kx_ro rfl ?_ ?_))) (Nat.le_of_ble_eq_true rfl) (by rfl) (by rfl) mo_set7 (fun s69 e69 => ?_)
              first | refine ri_aload_n C dX4_restoreState_72 rfl ?_ | refine ri_aload_nQ C dX4_restoreState_72 rfl ?_ | refine ri_aload_nN C dX4_restoreState_72 rfl ?_
              refine ri_getf C dX4_restoreState_73 fr_q2970_3 (by first | assumption | (repeat (first | assumption | exact kx_rs (by assumption) | exact kx_ne2 (by omega) | exact kx_ne1 (by omega) | refine kx_ro (by assumption) ?_ ?_ | exact kx_rs rfl | refine kx_ro rfl ?_ ?_))) (by rfl) ?_
              refine ri_iconst C dX4_restoreState_76 kc_i2 ?_
              first | refine ri_ialoadN C dX4_restoreState_77 (by first | assumption | (repeat (first | assumption | exact kx_rs (by assumption) | exact kx_ne2 (by omega) | exact kx_ne1 (by omega) | refine kx_ro (by assumption) ?_ ?_ | exact kx_rs rfl | refine kx_ro rfl ?_ ?_))) rfl (by omega) ?_ | refine ri_iaload C dX4_restoreState_77 (by first | assumption | (repeat (first | assumption | exact kx_rs (by assumption) | exact kx_ne2 (by omega) | exact kx_ne1 (by omega) | refine kx_ro (by assumption) ?_ ?_ | exact kx_rs rfl | refine kx_ro rfl ?_ ?_))) rfl (by omega) ?_
              exact ri_iret C hQ dX4_restoreState_78 rfl (Nat.le_of_ble_eq_true rfl) (Nat.le_of_ble_eq_true rfl) ⟨by rw [c1]; rfl, fun _ => by rw [e69, hI, e37, e2]; rfl, fun h => absurd h (by rw [c1]; decide)⟩
            · first | refine ri_aload_n C dX4_restoreState_49 rfl ?_ | refine ri_aload_nQ C dX4_restoreState_49 rfl ?_ | refine ri_aload_nN C dX4_restoreState_49 rfl ?_
              refine ri_getf C dX4_restoreState_50 fr_q2975_3 (by first | assumption | (repeat (first | assumption | exact kx_rs (by assumption) | exact kx_ne2 (by omega) | exact kx_ne1 (by omega) | refine kx_ro (by assumption) ?_ ?_ | exact kx_rs rfl | refine kx_ro rfl ?_ ?_))) (by rfl) ?_
              refine ri_iload_n C dX4_restoreState_53 rfl ?_
              first | refine ri_aload_n C dX4_restoreState_54 rfl ?_ | refine ri_aload_nQ C dX4_restoreState_54 rfl ?_ | refine ri_aload_nN C dX4_restoreState_54 rfl ?_
              refine ri_getf C dX4_restoreState_55 fr_q2976_3 (by first | assumption | (repeat (first | assumption | exact kx_rs (by assumption) | exact kx_ne2 (by omega) | exact kx_ne1 (by omega) | refine kx_ro (by assumption) ?_ ?_ | exact kx_rs rfl | refine kx_ro rfl ?_ ?_))) (by rfl) ?_
              refine ri_iload_n C dX4_restoreState_58 rfl ?_
              refine ri_iaload C dX4_restoreState_59 (by first | assumption | (repeat (first | assumption | exact kx_rs (by assumption) | exact kx_ne2 (by omega) | exact kx_ne1 (by omega) | refine kx_ro (by assumption) ?_ ?_ | exact kx_rs rfl | refine kx_ro rfl ?_ ?_))) rfl (by omega) ?_
              refine ri_iastore C dX4_restoreState_60 (by first | assumption | (repeat (first | assumption | exact kx_rs (by assumption) | exact kx_ne2 (by omega) | exact kx_ne1 (by omega) | refine kx_ro (by assumption) ?_ ?_ | exact kx_rs rfl | refine kx_ro rfl ?_ ?_))) rfl (by omega) (fun s60 e60 => ?_)
              first | refine ri_iincN C dX4_restoreState_61 rfl rfl (by decide) ?_ | refine ri_iinc C dX4_restoreState_61 rfl rfl rfl (by decide) ?_
              refine ri_goto C 42 dX4_restoreState_64 rfl ?_
              refine ri_lv2 (ih (i + 1) _ (by omega) (by omega) ?_) ⟨rfl, rfl, trivial⟩
              rw [e60, hI, kx_up_u]
              refine congrArg (fun f => kx_up s37 (1, 6) (ad 5, kx_ai G 2160 f)) ?_
              funext j
              simp only [upd]
              by_cases c : j = i
              · subst c; rw [if_pos rfl, if_pos (by omega)]
              · rw [if_neg c]
                by_cases d : j < i
                · rw [if_pos d, if_pos (by omega)]
                · rw [if_neg d, if_neg (by omega)]
        refine ri_lv2 (LP 2161 0 _ (by omega) (by omega) ?_) ⟨rfl, rfl, trivial⟩
        simp only [Nat.not_lt_zero, if_false]; exact (kx_up_i (by first | assumption | (repeat (first | assumption | exact kx_rs (by assumption) | exact kx_ne2 (by omega) | exact kx_ne1 (by omega) | refine kx_ro (by assumption) ?_ ?_ | exact kx_rs rfl | refine kx_ro rfl ?_ ?_)))).symm
      · exact absurd h22 (by decide) --dead
    · exact absurd h10 (by decide) --dead
