/-! the reference: past, aside -/
set_option maxRecDepth 100000
theorem kx_cpy_w {f g : Nat → Int32} {y n : Nat} {u : Nat → Nat} (h : ∀ j, j < n → f (y + j) = nI (u j)) : ∀ j, va_cpy f g y 0 n j = if j < n then nI (u j) else g j := fun j => by
  unfold va_cpy
  by_cases c : j < n
  · rw [if_pos (by omega), if_pos c]; rw [← h j c]; congr 1
  · rw [if_neg (by omega), if_neg c]
/-- the row of an array -/
def mx_r (A : Nat → Int32) (y : Nat) (u : Nat → Nat) : Prop := ∀ j, j < 1417 → A (y + j) = nI (u j)
def mo_pn (pm : Nat) : Nat := if pm = 8 then 8 else pm + 1
theorem mo_z_z {z : Nat → Int32} {k : Nat} {x y : Int32} : mo_z (mo_z z k x) k y = mo_z z k y := by funext i; unfold mo_z; split <;> rfl
theorem kx_up_x {σ : kx_H} {a b : kx_T} {x y x' y' : Nat × va_E} : kx_up (kx_up (kx_up (kx_up σ a x) b y) a x') b y' = kx_up (kx_up σ a x') b y' := by
  funext t; unfold kx_up; by_cases h : t = b <;> by_cases g : t = a <;> simp [h, g]
theorem kx_aiE {G : kx_G} {n : Nat} {f g : Nat → Int32} (h : ∀ j, j < n → f j = g j) : True := trivial
def mx_cut (u v : Nat → Nat) : Nat → Nat := fun j => if j < 1417 then u j else v j
theorem mx_cut_w {A : Nat → Int32} {y : Nat} {u v : Nat → Nat} (h : mx_r A y u) : va_cpy A (mx_w v) y 0 1417 = mx_w (mx_cut u v) := by
  funext j
  rw [kx_cpy_w h]
  unfold mx_cut
  show _ = nI (if j < 1417 then u j else v j)
  split <;> rfl
theorem mx_cut_r {A : Nat → Int32} {u : Nat → Nat} {y : Nat} : mx_r (va_cpy (mx_w u) A 0 y 1417) y u := fun j hj => by
  unfold va_cpy
  rw [if_pos (by omega)]
  show nI (u _) = _
  congr 2; omega
set_option maxHeartbeats 1000000 in
theorem mt_X4_goesAside {l : Launch} {G : kx_G} (htr : l.stackTraces = false) {σ : kx_H} {mo : Nat} {ad : Nat → Nat} {z : Nat → Int32} {u : Nat → Nat} (h0 : σ (1, 0) = some (mo, .inr (3, mo_L ad z))) (hw : σ (1, 1) = some (ad 0, kx_ai G 1417 (mx_w u))) {A : Nat → Int32} (ha : σ (1, 3) = some (ad 2, kx_ai G 1417 A)) : kx_SP l G yX4_goesAside (ws_ yX4_goesAside cX4_goesAside 1 none) 2 0 0 [.ref mo] σ (fun v τ => v = none ∧ τ = kx_up σ (1, 3) (ad 2, kx_ai G 1417 (va_cpy (mx_w u) A 0 0 1417))) kx_nx := by
  refine kx_body htr (by decide +kernel) (own := "RoseProverbsModel") (nm := "goesAside") rfl rfl (Nat.le_of_ble_eq_true rfl) ?_
  intro p e s m args below meth c Q C hQ
  first | refine ri_aload_n C dX4_goesAside_0 rfl ?_ | refine ri_aload_nQ C dX4_goesAside_0 rfl ?_ | refine ri_aload_nN C dX4_goesAside_0 rfl ?_
  refine ri_getf C dX4_goesAside_1 fr_q2970_3 (by first | assumption | (repeat (first | assumption | exact kx_rs (by assumption) | exact kx_ne2 (by omega) | exact kx_ne1 (by omega) | refine kx_ro (by assumption) ?_ ?_ | exact kx_rs rfl | refine kx_ro rfl ?_ ?_))) (by rfl) ?_
  refine ri_iconst C dX4_goesAside_4 kc_i0 ?_
  first | refine ri_aload_n C dX4_goesAside_5 rfl ?_ | refine ri_aload_nQ C dX4_goesAside_5 rfl ?_ | refine ri_aload_nN C dX4_goesAside_5 rfl ?_
  refine ri_getf C dX4_goesAside_6 fr_q2972_3 (by first | assumption | (repeat (first | assumption | exact kx_rs (by assumption) | exact kx_ne2 (by omega) | exact kx_ne1 (by omega) | refine kx_ro (by assumption) ?_ ?_ | exact kx_rs rfl | refine kx_ro rfl ?_ ?_))) (by rfl) ?_
  refine ri_iconst C dX4_goesAside_9 kc_i0 ?_
  refine ri_callS C km_X4_copies q3078 dX4_goesAside_10 (mt_X4_copies htr hw ha (by decide) (x := 0) (y := 0) (by omega) (by omega)) rfl rfl ⟨⟨(Nat.le_of_ble_eq_true rfl), (Nat.le_of_ble_eq_true rfl)⟩, (Nat.le_of_ble_eq_true rfl), (Nat.le_of_ble_eq_true rfl), (Nat.le_of_ble_eq_true rfl)⟩ (fun v10 s10 h10 => ?_) (fun _ _ _ h => h.elim)
  obtain ⟨rfl, e10⟩ := h10
  exact ri_vret C hQ dX4_goesAside_13 (Nat.le_of_ble_eq_true rfl) (Nat.le_of_ble_eq_true rfl) ⟨rfl, e10⟩
set_option maxHeartbeats 1000000 in
theorem mt_X4_goesBack {l : Launch} {G : kx_G} (htr : l.stackTraces = false) {σ : kx_H} {mo : Nat} {ad : Nat → Nat} {z : Nat → Int32} {u : Nat → Nat} {a : Int32} {q : Nat → Nat} (h0 : σ (1, 0) = some (mo, .inr (3, mo_L ad z))) (hw : σ (1, 1) = some (ad 0, kx_ai G 1417 (mx_w u))) {A : Nat → Int32} (ha : σ (1, 3) = some (ad 2, kx_ai G 1417 A)) (hr : mx_r A 0 q) : kx_SP l G yX4_goesBack (ws_ yX4_goesBack cX4_goesBack 2 (some .int)) 2 0 0 [.ref mo, .int a] σ (fun v τ => v = some (.int a) ∧ τ = kx_up σ (1, 1) (ad 0, kx_ai G 1417 (mx_w (mx_cut q u)))) kx_nx := by
  refine kx_body htr (by decide +kernel) (own := "RoseProverbsModel") (nm := "goesBack") rfl rfl (Nat.le_of_ble_eq_true rfl) ?_
  intro p e s m args below meth c Q C hQ
  first | refine ri_aload_n C dX4_goesBack_0 rfl ?_ | refine ri_aload_nQ C dX4_goesBack_0 rfl ?_ | refine ri_aload_nN C dX4_goesBack_0 rfl ?_
  refine ri_getf C dX4_goesBack_1 fr_q2972_3 (by first | assumption | (repeat (first | assumption | exact kx_rs (by assumption) | exact kx_ne2 (by omega) | exact kx_ne1 (by omega) | refine kx_ro (by assumption) ?_ ?_ | exact kx_rs rfl | refine kx_ro rfl ?_ ?_))) (by rfl) ?_
  refine ri_iconst C dX4_goesBack_4 kc_i0 ?_
  first | refine ri_aload_n C dX4_goesBack_5 rfl ?_ | refine ri_aload_nQ C dX4_goesBack_5 rfl ?_ | refine ri_aload_nN C dX4_goesBack_5 rfl ?_
  refine ri_getf C dX4_goesBack_6 fr_q2970_3 (by first | assumption | (repeat (first | assumption | exact kx_rs (by assumption) | exact kx_ne2 (by omega) | exact kx_ne1 (by omega) | refine kx_ro (by assumption) ?_ ?_ | exact kx_rs rfl | refine kx_ro rfl ?_ ?_))) (by rfl) ?_
  refine ri_iconst C dX4_goesBack_9 kc_i0 ?_
  refine ri_callS C km_X4_copies q3078 dX4_goesBack_10 (mt_X4_copies htr ha hw (by decide) (x := 0) (y := 0) (by omega) (by omega)) rfl rfl ⟨⟨(Nat.le_of_ble_eq_true rfl), (Nat.le_of_ble_eq_true rfl)⟩, (Nat.le_of_ble_eq_true rfl), (Nat.le_of_ble_eq_true rfl), (Nat.le_of_ble_eq_true rfl)⟩ (fun v10 s10 h10 => ?_) (fun _ _ _ h => h.elim)
  obtain ⟨rfl, e10⟩ := h10
  refine ri_iload_n C dX4_goesBack_13 rfl ?_
  exact ri_iret C hQ dX4_goesBack_14 rfl (Nat.le_of_ble_eq_true rfl) (Nat.le_of_ble_eq_true rfl) ⟨rfl, by rw [e10, mx_cut_w hr]⟩
set_option maxHeartbeats 1000000 in
theorem mt_X4_remembers {l : Launch} {G : kx_G} (htr : l.stackTraces = false) {σ : kx_H} {mo : Nat} {ad : Nat → Nat} {z : Nat → Int32} {u : Nat → Nat} {pm : Nat} (h0 : σ (1, 0) = some (mo, .inr (3, mo_L ad z))) (hw : σ (1, 1) = some (ad 0, kx_ai G 1417 (mx_w u))) {P : Nat → Int32} (hp : σ (1, 5) = some (ad 4, kx_ai G 11336 P)) (hz : z 7 = nI pm) (hpm : pm ≤ 8) : kx_SP l G yX4_remembers (ws_ yX4_remembers cX4_remembers 2 none) 2 0 0 [.ref mo] σ (fun v τ => v = none ∧ ∃ P', τ = kx_up (kx_up σ (1, 5) (ad 4, kx_ai G 11336 P')) (1, 0) (mo, .inr (3, mo_L ad (mo_z z 7 (nI (mo_pn pm))))) ∧ mx_r P' (1417 * (mo_pn pm - 1)) u ∧ ∀ k j, k + 1 < mo_pn pm → j < 1417 → P' (1417 * k + j) = P (1417 * (k + (if pm = 8 then 1 else 0)) + j)) kx_nx := by
  refine kx_body htr (by decide +kernel) (own := "RoseProverbsModel") (nm := "remembers") rfl rfl (Nat.le_of_ble_eq_true rfl) ?_
  intro p e s m args below meth c Q C hQ
  have LP : ∀ (wk i : Nat) (τ : kx_H), i ≤ 9919 → 9919 < i + wk → (pm = 8 ∧ τ = kx_up σ (1, 5) (ad 4, kx_ai G 11336 (fun j => if j < i then P (j + 1417) else P j))) → kx_V G l p e (kx_rm 2 0 0) s m args below meth c 2 Q 11 [(0, .ref mo), (1, .int (nI i))] [] τ 0 0 := by
    intro wk
    induction wk with
    | zero => intro i τ h1 h2; exact absurd h2 (by omega)
    | succ wk ih =>
      intro i τ hi hwk hJ
      obtain ⟨rfl, hI⟩ := hJ
      refine ri_iload_n C dX4_remembers_11 rfl ?_
      refine ri_sipush C dX4_remembers_12 kc_s9919 ?_
      first | refine ri_icmp_geN C 40 dX4_remembers_15 rfl (by omega) (by omega) (fun h15 => ?_) (fun h15 => ?_) | refine ri_icmp_ge C 40 dX4_remembers_15 rfl (fun h15 => ?_) (fun h15 => ?_)
      · obtain rfl : i = 9919 := by omega
        first | refine ri_aload_n C dX4_remembers_40 rfl ?_ | refine ri_aload_nQ C dX4_remembers_40 rfl ?_ | refine ri_aload_nN C dX4_remembers_40 rfl ?_
        refine ri_dup C dX4_remembers_41 rfl ?_
        refine ri_getf C dX4_remembers_42 fr_q2977_3 (by first | assumption | (repeat (first | assumption | exact kx_rs (by assumption) | exact kx_ne2 (by omega) | exact kx_ne1 (by omega) | refine kx_ro (by assumption) ?_ ?_ | exact kx_rs rfl | refine kx_ro rfl ?_ ?_))) (by rfl) ?_
        rw [hz]
        refine ri_iconst C dX4_remembers_45 kc_i1 ?_
        first | refine ri_isubN C dX4_remembers_46 (by omega) ?_ | refine ri_isub C dX4_remembers_46 ?_
        refine ri_putf C dX4_remembers_47 fd_q2977_3 (fun h => nomatch h) (by first | assumption | (repeat (first | assumption | exact kx_rs (by assumption) | exact kx_ne2 (by omega) | exact kx_ne1 (by omega) | refine kx_ro (by assumption) ?_ ?_ | exact kx_rs rfl | refine kx_ro rfl ?_ ?_))) (Nat.le_of_ble_eq_true rfl) (by rfl) (by rfl) mo_set7 (fun s47 e47 => ?_)
        first | refine ri_aload_n C dX4_remembers_50 rfl ?_ | refine ri_aload_nQ C dX4_remembers_50 rfl ?_ | refine ri_aload_nN C dX4_remembers_50 rfl ?_
        refine ri_getf C dX4_remembers_51 fr_q2970_3 (by first | assumption | (repeat (first | assumption | exact kx_rs (by assumption) | exact kx_ne2 (by omega) | exact kx_ne1 (by omega) | refine kx_ro (by assumption) ?_ ?_ | exact kx_rs rfl | refine kx_ro rfl ?_ ?_))) (by rfl) ?_
        refine ri_iconst C dX4_remembers_54 kc_i0 ?_
        first | refine ri_aload_n C dX4_remembers_55 rfl ?_ | refine ri_aload_nQ C dX4_remembers_55 rfl ?_ | refine ri_aload_nN C dX4_remembers_55 rfl ?_
        refine ri_getf C dX4_remembers_56 fr_q2974_3 (by first | assumption | (repeat (first | assumption | exact kx_rs (by assumption) | exact kx_ne2 (by omega) | exact kx_ne1 (by omega) | refine kx_ro (by assumption) ?_ ?_ | exact kx_rs rfl | refine kx_ro rfl ?_ ?_))) (by rfl) ?_
        refine ri_sipush C dX4_remembers_59 kc_s1417 ?_
        first | refine ri_aload_n C dX4_remembers_62 rfl ?_ | refine ri_aload_nQ C dX4_remembers_62 rfl ?_ | refine ri_aload_nN C dX4_remembers_62 rfl ?_
        refine ri_getf C dX4_remembers_63 fr_q2977_3 (by first | assumption | (repeat (first | assumption | exact kx_rs (by assumption) | exact kx_ne2 (by omega) | exact kx_ne1 (by omega) | refine kx_ro (by assumption) ?_ ?_ | exact kx_rs rfl | refine kx_ro rfl ?_ ?_))) (by rfl) ?_
        first | rw [hz] | rw [mo_z_s]
        first | refine ri_imulN C dX4_remembers_66 ?_ | refine ri_imul C dX4_remembers_66 ?_
        refine ri_callS C km_X4_copies q3078 dX4_remembers_67 (mt_X4_copies htr (tf := (1, 1)) (tt := (1, 5)) (by first | assumption | (repeat (first | assumption | exact kx_rs (by assumption) | exact kx_ne2 (by omega) | exact kx_ne1 (by omega) | refine kx_ro (by assumption) ?_ ?_ | exact kx_rs rfl | refine kx_ro rfl ?_ ?_))) (by first | assumption | (repeat (first | assumption | exact kx_rs (by assumption) | exact kx_ne2 (by omega) | exact kx_ne1 (by omega) | refine kx_ro (by assumption) ?_ ?_ | exact kx_rs rfl | refine kx_ro rfl ?_ ?_))) (by decide) (x := 0) (by omega) (by omega)) rfl rfl ⟨⟨(Nat.le_of_ble_eq_true rfl), (Nat.le_of_ble_eq_true rfl)⟩, (Nat.le_of_ble_eq_true rfl), (Nat.le_of_ble_eq_true rfl), (Nat.le_of_ble_eq_true rfl)⟩ (fun v67 s67 h67 => ?_) (fun _ _ _ h => h.elim)
        obtain ⟨rfl, e67⟩ := h67
        first | refine ri_aload_n C dX4_remembers_70 rfl ?_ | refine ri_aload_nQ C dX4_remembers_70 rfl ?_ | refine ri_aload_nN C dX4_remembers_70 rfl ?_
        refine ri_dup C dX4_remembers_71 rfl ?_
        refine ri_getf C dX4_remembers_72 fr_q2977_3 (by first | assumption | (repeat (first | assumption | exact kx_rs (by assumption) | exact kx_ne2 (by omega) | exact kx_ne1 (by omega) | refine kx_ro (by assumption) ?_ ?_ | exact kx_rs rfl | refine kx_ro rfl ?_ ?_))) (by rfl) ?_
        first | rw [hz] | rw [mo_z_s]
        refine ri_iconst C dX4_remembers_75 kc_i1 ?_
        first | refine ri_iaddN C dX4_remembers_76 ?_ | refine ri_iadd C dX4_remembers_76 ?_
        refine ri_putf C dX4_remembers_77 fd_q2977_3 (fun h => nomatch h) (by first | assumption | (repeat (first | assumption | exact kx_rs (by assumption) | exact kx_ne2 (by omega) | exact kx_ne1 (by omega) | refine kx_ro (by assumption) ?_ ?_ | exact kx_rs rfl | refine kx_ro rfl ?_ ?_))) (Nat.le_of_ble_eq_true rfl) (by rfl) (by rfl) mo_set7 (fun s77 e77 => ?_)
        refine ri_vret C hQ dX4_remembers_80 (Nat.le_of_ble_eq_true rfl) (Nat.le_of_ble_eq_true rfl) ?_
        first
            | (refine ⟨rfl, va_cpy (mx_w u) P 0 (1417 * pm) 1417, ?_, ?_, ?_⟩
               · rw [e77, e67, mo_pn, if_neg (by omega)]
               · rw [mo_pn, if_neg (by omega)]; exact mx_cut_r
               · intro k j h1 h2
                 rw [mo_pn, if_neg (by omega)] at h1
                 rw [if_neg (by omega)]
                 unfold va_cpy
                 rw [if_neg (by omega)]; rfl)
            | (refine ⟨rfl, va_cpy (mx_w u) (fun j => if j < 9919 then P (j + 1417) else P j) 0 (1417 * 7) 1417, ?_, ?_, ?_⟩
               · rw [e77, e67, e47, hI, kx_up_x, mo_z_z]; rfl
               · exact mx_cut_r
               · intro k j h1 h2
                 have h1 : k + 1 < 8 := h1
                 unfold va_cpy
                 rw [if_neg (by omega)]
                 show (if 1417 * k + j < 9919 then P (1417 * k + j + 1417) else P (1417 * k + j)) = P (1417 * (k + 1) + j)
                 rw [if_pos (by omega)]; congr 1; omega)
      · first | refine ri_aload_n C dX4_remembers_18 rfl ?_ | refine ri_aload_nQ C dX4_remembers_18 rfl ?_ | refine ri_aload_nN C dX4_remembers_18 rfl ?_
        refine ri_getf C dX4_remembers_19 fr_q2974_3 (by first | assumption | (repeat (first | assumption | exact kx_rs (by assumption) | exact kx_ne2 (by omega) | exact kx_ne1 (by omega) | refine kx_ro (by assumption) ?_ ?_ | exact kx_rs rfl | refine kx_ro rfl ?_ ?_))) (by rfl) ?_
        refine ri_iload_n C dX4_remembers_22 rfl ?_
        first | refine ri_aload_n C dX4_remembers_23 rfl ?_ | refine ri_aload_nQ C dX4_remembers_23 rfl ?_ | refine ri_aload_nN C dX4_remembers_23 rfl ?_
        refine ri_getf C dX4_remembers_24 fr_q2974_3 (by first | assumption | (repeat (first | assumption | exact kx_rs (by assumption) | exact kx_ne2 (by omega) | exact kx_ne1 (by omega) | refine kx_ro (by assumption) ?_ ?_ | exact kx_rs rfl | refine kx_ro rfl ?_ ?_))) (by rfl) ?_
        refine ri_iload_n C dX4_remembers_27 rfl ?_
        refine ri_sipush C dX4_remembers_28 kc_s1417 ?_
        first | refine ri_iaddN C dX4_remembers_31 ?_ | refine ri_iadd C dX4_remembers_31 ?_
        first | refine ri_ialoadN C dX4_remembers_32 (by first | assumption | (repeat (first | assumption | exact kx_rs (by assumption) | exact kx_ne2 (by omega) | exact kx_ne1 (by omega) | refine kx_ro (by assumption) ?_ ?_ | exact kx_rs rfl | refine kx_ro rfl ?_ ?_))) rfl (by omega) ?_ | refine ri_iaload C dX4_remembers_32 (by first | assumption | (repeat (first | assumption | exact kx_rs (by assumption) | exact kx_ne2 (by omega) | exact kx_ne1 (by omega) | refine kx_ro (by assumption) ?_ ?_ | exact kx_rs rfl | refine kx_ro rfl ?_ ?_))) rfl (by omega) ?_
        refine ri_iastore C dX4_remembers_33 (by first | assumption | (repeat (first | assumption | exact kx_rs (by assumption) | exact kx_ne2 (by omega) | exact kx_ne1 (by omega) | refine kx_ro (by assumption) ?_ ?_ | exact kx_rs rfl | refine kx_ro rfl ?_ ?_))) rfl (by omega) (fun s33 e33 => ?_)
        first | refine ri_iincN C dX4_remembers_34 rfl rfl (by decide) ?_ | refine ri_iinc C dX4_remembers_34 rfl rfl rfl (by decide) ?_
        refine ri_goto C 11 dX4_remembers_37 rfl ?_
        refine ri_lv2 (ih (i + 1) _ (by omega) (by omega) ⟨rfl, ?_⟩) ⟨rfl, rfl, trivial⟩
        rw [e33, hI, kx_up_u]
        refine congrArg (fun f => kx_up σ (1, 5) (ad 4, kx_ai G 11336 f)) ?_
        funext j
        simp only [upd]
        by_cases c : j = i
        · subst c; simp [show ¬ j + 1417 < j by omega]
        · rw [if_neg c]
          by_cases d : j < i
          · rw [if_pos d, if_pos (by omega)]
          · rw [if_neg d, if_neg (by omega)]
  first | refine ri_aload_n C dX4_remembers_0 rfl ?_ | refine ri_aload_nQ C dX4_remembers_0 rfl ?_ | refine ri_aload_nN C dX4_remembers_0 rfl ?_
  refine ri_getf C dX4_remembers_1 fr_q2977_3 (by first | assumption | (repeat (first | assumption | exact kx_rs (by assumption) | exact kx_ne2 (by omega) | exact kx_ne1 (by omega) | refine kx_ro (by assumption) ?_ ?_ | exact kx_rs rfl | refine kx_ro rfl ?_ ?_))) (by rfl) ?_
  rw [hz]
  refine ri_bipush C dX4_remembers_4 kc_b8 ?_
  first | refine ri_icmp_neN C 50 dX4_remembers_6 rfl (by omega) (by omega) (fun h6 => ?_) (fun h6 => ?_) | refine ri_icmp_ne C 50 dX4_remembers_6 rfl (fun h6 => ?_) (fun h6 => ?_)
  · first | refine ri_aload_n C dX4_remembers_50 rfl ?_ | refine ri_aload_nQ C dX4_remembers_50 rfl ?_ | refine ri_aload_nN C dX4_remembers_50 rfl ?_
    refine ri_getf C dX4_remembers_51 fr_q2970_3 (by first | assumption | (repeat (first | assumption | exact kx_rs (by assumption) | exact kx_ne2 (by omega) | exact kx_ne1 (by omega) | refine kx_ro (by assumption) ?_ ?_ | exact kx_rs rfl | refine kx_ro rfl ?_ ?_))) (by rfl) ?_
    refine ri_iconst C dX4_remembers_54 kc_i0 ?_
    first | refine ri_aload_n C dX4_remembers_55 rfl ?_ | refine ri_aload_nQ C dX4_remembers_55 rfl ?_ | refine ri_aload_nN C dX4_remembers_55 rfl ?_
    refine ri_getf C dX4_remembers_56 fr_q2974_3 (by first | assumption | (repeat (first | assumption | exact kx_rs (by assumption) | exact kx_ne2 (by omega) | exact kx_ne1 (by omega) | refine kx_ro (by assumption) ?_ ?_ | exact kx_rs rfl | refine kx_ro rfl ?_ ?_))) (by rfl) ?_
    refine ri_sipush C dX4_remembers_59 kc_s1417 ?_
    first | refine ri_aload_n C dX4_remembers_62 rfl ?_ | refine ri_aload_nQ C dX4_remembers_62 rfl ?_ | refine ri_aload_nN C dX4_remembers_62 rfl ?_
    refine ri_getf C dX4_remembers_63 fr_q2977_3 (by first | assumption | (repeat (first | assumption | exact kx_rs (by assumption) | exact kx_ne2 (by omega) | exact kx_ne1 (by omega) | refine kx_ro (by assumption) ?_ ?_ | exact kx_rs rfl | refine kx_ro rfl ?_ ?_))) (by rfl) ?_
    first | rw [hz] | rw [mo_z_s]
    first | refine ri_imulN C dX4_remembers_66 ?_ | refine ri_imul C dX4_remembers_66 ?_
    refine ri_callS C km_X4_copies q3078 dX4_remembers_67 (mt_X4_copies htr (tf := (1, 1)) (tt := (1, 5)) (by first | assumption | (repeat (first | assumption | exact kx_rs (by assumption) | exact kx_ne2 (by omega) | exact kx_ne1 (by omega) | refine kx_ro (by assumption) ?_ ?_ | exact kx_rs rfl | refine kx_ro rfl ?_ ?_))) (by first | assumption | (repeat (first | assumption | exact kx_rs (by assumption) | exact kx_ne2 (by omega) | exact kx_ne1 (by omega) | refine kx_ro (by assumption) ?_ ?_ | exact kx_rs rfl | refine kx_ro rfl ?_ ?_))) (by decide) (x := 0) (by omega) (by omega)) rfl rfl ⟨⟨(Nat.le_of_ble_eq_true rfl), (Nat.le_of_ble_eq_true rfl)⟩, (Nat.le_of_ble_eq_true rfl), (Nat.le_of_ble_eq_true rfl), (Nat.le_of_ble_eq_true rfl)⟩ (fun v67 s67 h67 => ?_) (fun _ _ _ h => h.elim)
    obtain ⟨rfl, e67⟩ := h67
    first | refine ri_aload_n C dX4_remembers_70 rfl ?_ | refine ri_aload_nQ C dX4_remembers_70 rfl ?_ | refine ri_aload_nN C dX4_remembers_70 rfl ?_
    refine ri_dup C dX4_remembers_71 rfl ?_
    refine ri_getf C dX4_remembers_72 fr_q2977_3 (by first | assumption | (repeat (first | assumption | exact kx_rs (by assumption) | exact kx_ne2 (by omega) | exact kx_ne1 (by omega) | refine kx_ro (by assumption) ?_ ?_ | exact kx_rs rfl | refine kx_ro rfl ?_ ?_))) (by rfl) ?_
    first | rw [hz] | rw [mo_z_s]
    refine ri_iconst C dX4_remembers_75 kc_i1 ?_
    first | refine ri_iaddN C dX4_remembers_76 ?_ | refine ri_iadd C dX4_remembers_76 ?_
    refine ri_putf C dX4_remembers_77 fd_q2977_3 (fun h => nomatch h) (by first | assumption | (repeat (first | assumption | exact kx_rs (by assumption) | exact kx_ne2 (by omega) | exact kx_ne1 (by omega) | refine kx_ro (by assumption) ?_ ?_ | exact kx_rs rfl | refine kx_ro rfl ?_ ?_))) (Nat.le_of_ble_eq_true rfl) (by rfl) (by rfl) mo_set7 (fun s77 e77 => ?_)
    refine ri_vret C hQ dX4_remembers_80 (Nat.le_of_ble_eq_true rfl) (Nat.le_of_ble_eq_true rfl) ?_
    first
        | (refine ⟨rfl, va_cpy (mx_w u) P 0 (1417 * pm) 1417, ?_, ?_, ?_⟩
           · rw [e77, e67, mo_pn, if_neg (by omega)]
           · rw [mo_pn, if_neg (by omega)]; exact mx_cut_r
           · intro k j h1 h2
             rw [mo_pn, if_neg (by omega)] at h1
             rw [if_neg (by omega)]
             unfold va_cpy
             rw [if_neg (by omega)]; rfl)
        | (refine ⟨rfl, va_cpy (mx_w u) (fun j => if j < 9919 then P (j + 1417) else P j) 0 (1417 * 7) 1417, ?_, ?_, ?_⟩
           · rw [e77, e67, e47, hI, kx_up_x, mo_z_z]; rfl
           · exact mx_cut_r
           · intro k j h1 h2
             have h1 : k + 1 < 8 := h1
             unfold va_cpy
             rw [if_neg (by omega)]
             show (if 1417 * k + j < 9919 then P (1417 * k + j + 1417) else P (1417 * k + j)) = P (1417 * (k + 1) + j)
             rw [if_pos (by omega)]; congr 1; omega)
  · obtain rfl : pm = 8 := by omega
    refine ri_iconst C dX4_remembers_9 kc_i0 ?_
    refine ri_istore_n C dX4_remembers_10 rfl (by decide) ?_
    refine ri_lv2 (LP 9920 0 _ (by omega) (by omega) ⟨rfl, ?_⟩) ⟨rfl, rfl, trivial⟩
    simp only [Nat.not_lt_zero, if_false]; exact (kx_up_i hp).symm
