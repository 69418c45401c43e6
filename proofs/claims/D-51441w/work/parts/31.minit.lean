/-! the reference: its making -/
set_option maxRecDepth 100000
/-- the reference's picture: its object, its arrays -/
def mo_S (G : kx_G) (σ : kx_H) (mo : Nat) (ad : Nat → Nat) (z : Nat → Int32) (A : Nat → Nat → Int32) : Prop :=
  σ (1, 0) = some (mo, .inr (3, mo_L ad z)) ∧ σ (1, 1) = some (ad 0, kx_ai G 1417 (A 0)) ∧ σ (1, 2) = some (ad 1, kx_ai G 1417 (A 1)) ∧ σ (1, 3) = some (ad 2, kx_ai G 1417 (A 2)) ∧ σ (1, 4) = some (ad 3, kx_ai G 1417 (A 3)) ∧ σ (1, 5) = some (ad 4, kx_ai G 11336 (A 4)) ∧ σ (1, 6) = some (ad 5, kx_ai G 2160 (A 5)) ∧ σ (1, 7) = some (ad 6, kx_ai G 2160 (A 6)) ∧ σ (1, 11) = some (ad 10, kx_ai G 700 (A 10)) ∧ σ (1, 22) = some (ad 21, kx_ai G 6 (A 21)) ∧ σ (1, 23) = some (ad 22, kx_ai G 31 (A 22)) ∧ σ (1, 24) = some (ad 23, kx_ai G 186 (A 23)) ∧ σ (1, 26) = some (ad 25, kx_ai G 192 (A 25)) ∧ σ (1, 27) = some (ad 26, kx_ai G 60 (A 26))
/-- but for the tags of one colour nothing is changed -/
def kx_of (c : Nat) (σ τ : kx_H) : Prop := ∀ t : kx_T, t.1 ≠ c → τ t = σ t
theorem kx_of_r {c : Nat} {σ : kx_H} : kx_of c σ σ := fun _ _ => rfl
theorem kx_of_u {c k : Nat} {ρ σ τ : kx_H} {x : Nat × va_E} (e : τ = kx_up σ (c, k) x) (h : kx_of c ρ σ) : kx_of c ρ τ := fun t ht => by
  rw [e, kx_up_o (fun h => ht (by rw [h]))]; exact h t ht
theorem kx_of_t {c : Nat} {ρ σ τ : kx_H} (h : kx_of c ρ σ) (g : kx_of c σ τ) : kx_of c ρ τ := fun t ht => (g t ht).trans (h t ht)
def mo_ad (a0 a1 a2 a3 a4 a5 a6 a10 a21 a22 a23 a25 a26 : Nat) : Nat → Nat := fun k => if k = 0 then a0 else if k = 1 then a1 else if k = 2 then a2 else if k = 3 then a3 else if k = 4 then a4 else if k = 5 then a5 else if k = 6 then a6 else if k = 10 then a10 else if k = 21 then a21 else if k = 22 then a22 else if k = 23 then a23 else if k = 25 then a25 else if k = 26 then a26 else 0
def mo_z0 : Nat → Int32 := fun k => if k = 13 then -1 else 0
def mx_i0 : Nat → Nat := mx_b0 (fun _ => 0)
def mx_i1r : Nat → Nat := mx_adds mx_i0 14 2 0 11 0 100
def mx_i2r : Nat → Nat := mx_adds mx_i1r 0 4 0 1 2 120
def mx_i3r : Nat → Nat := mx_adds mx_i2r 8 12 2 9 1 80
def mx_i4r : Nat → Nat := mx_adds mx_i3r 10 10 0 11 3 300
theorem mx_adds_0 {u : Nat → Nat} {a b c d e f : Nat} : mx_adds u a b c d e f 0 = u 0 + 1 := mx_s_s
theorem mx_i0_0 : mx_i0 0 = 0 := rfl
def mo_A0 : Nat → Nat → Int32 := fun k => if k = 0 then mx_w mx_i4r else fun _ => 0
set_option maxHeartbeats 1000000 in
theorem mt_X4_init {l : Launch} {G : kx_G} (htr : l.stackTraces = false) {σ : kx_H} {mo : Nat} (h0 : σ (1, 0) = some (mo, .inr (3, [.null, .null, .null, .null, .null, .null, .null, .int 0, .int 0, .int 0, .null, .int 0, .int 0, .int 0, .int 0, .int 0, .int 0, .int 0, .int 0, .int 0, .int 0, .null, .null, .null, .int 0, .null, .null, .int 0]))) : kx_SP l G yX4_init (ws_ yX4_init cX4_init 2 none) 4 14 23000 [.ref mo] σ (fun v τ => v = none ∧ ∃ ad, mo_S G τ mo ad mo_z0 mo_A0 ∧ kx_of 1 σ τ) kx_nx := by
  refine kx_body htr (by decide +kernel) (own := "RoseProverbsModel") (nm := "<init>") rfl rfl (Nat.le_of_ble_eq_true rfl) ?_
  intro p e s m args below meth c Q C hQ
  first | refine ri_aload_n C dX4_init_0 rfl ?_ | refine ri_aload_nQ C dX4_init_0 rfl ?_ | refine ri_aload_nN C dX4_init_0 rfl ?_
  refine ri_objInit C dX4_init_1 q2957 q205 q206 ⟨(Nat.le_of_ble_eq_true rfl), (Nat.le_of_ble_eq_true rfl)⟩ ?_
  first | refine ri_aload_n C dX4_init_4 rfl ?_ | refine ri_aload_nQ C dX4_init_4 rfl ?_ | refine ri_aload_nN C dX4_init_4 rfl ?_
  refine ri_sipush C dX4_init_5 kc_s1417 ?_
  refine ri_newa C 0 .int (1417, .inl (fun _ => 0)) (1, 1) (1417) dX4_init_8 rfl rfl q664 (fun _ => rfl) rfl (by decide) (Nat.le_of_ble_eq_true rfl) (Nat.le_of_ble_eq_true rfl) (fun q8 s8 e8 f8 => ?_)
  refine ri_putf C dX4_init_10 fd_q2970_3 (fun _ => ⟨rfl, rfl⟩) (by first | assumption | (repeat (first | assumption | exact kx_rs (by assumption) | exact kx_ne2 (by omega) | exact kx_ne1 (by omega) | refine kx_ro (by assumption) ?_ ?_ | exact kx_rs rfl | refine kx_ro rfl ?_ ?_))) (Nat.le_of_ble_eq_true rfl) (by rfl) (by rfl) (by dsimp only [List.set] <;> rfl) (fun s10 e10 => ?_)
  first | refine ri_aload_n C dX4_init_13 rfl ?_ | refine ri_aload_nQ C dX4_init_13 rfl ?_ | refine ri_aload_nN C dX4_init_13 rfl ?_
  refine ri_sipush C dX4_init_14 kc_s1417 ?_
  refine ri_newa C 0 .int (1417, .inl (fun _ => 0)) (1, 2) (1417) dX4_init_17 rfl rfl q664 (fun _ => rfl) rfl (by decide) (Nat.le_of_ble_eq_true rfl) (Nat.le_of_ble_eq_true rfl) (fun q17 s17 e17 f17 => ?_)
  refine ri_putf C dX4_init_19 fd_q2971_3 (fun _ => ⟨rfl, rfl⟩) (by first | assumption | (repeat (first | assumption | exact kx_rs (by assumption) | exact kx_ne2 (by omega) | exact kx_ne1 (by omega) | refine kx_ro (by assumption) ?_ ?_ | exact kx_rs rfl | refine kx_ro rfl ?_ ?_))) (Nat.le_of_ble_eq_true rfl) (by rfl) (by rfl) (by dsimp only [List.set] <;> rfl) (fun s19 e19 => ?_)
  first | refine ri_aload_n C dX4_init_22 rfl ?_ | refine ri_aload_nQ C dX4_init_22 rfl ?_ | refine ri_aload_nN C dX4_init_22 rfl ?_
  refine ri_sipush C dX4_init_23 kc_s1417 ?_
  refine ri_newa C 0 .int (1417, .inl (fun _ => 0)) (1, 3) (1417) dX4_init_26 rfl rfl q664 (fun _ => rfl) rfl (by decide) (Nat.le_of_ble_eq_true rfl) (Nat.le_of_ble_eq_true rfl) (fun q26 s26 e26 f26 => ?_)
  refine ri_putf C dX4_init_28 fd_q2972_3 (fun _ => ⟨rfl, rfl⟩) (by first | assumption | (repeat (first | assumption | exact kx_rs (by assumption) | exact kx_ne2 (by omega) | exact kx_ne1 (by omega) | refine kx_ro (by assumption) ?_ ?_ | exact kx_rs rfl | refine kx_ro rfl ?_ ?_))) (Nat.le_of_ble_eq_true rfl) (by rfl) (by rfl) (by dsimp only [List.set] <;> rfl) (fun s28 e28 => ?_)
  first | refine ri_aload_n C dX4_init_31 rfl ?_ | refine ri_aload_nQ C dX4_init_31 rfl ?_ | refine ri_aload_nN C dX4_init_31 rfl ?_
  refine ri_sipush C dX4_init_32 kc_s1417 ?_
  refine ri_newa C 0 .int (1417, .inl (fun _ => 0)) (1, 4) (1417) dX4_init_35 rfl rfl q664 (fun _ => rfl) rfl (by decide) (Nat.le_of_ble_eq_true rfl) (Nat.le_of_ble_eq_true rfl) (fun q35 s35 e35 f35 => ?_)
  refine ri_putf C dX4_init_37 fd_q2973_3 (fun _ => ⟨rfl, rfl⟩) (by first | assumption | (repeat (first | assumption | exact kx_rs (by assumption) | exact kx_ne2 (by omega) | exact kx_ne1 (by omega) | refine kx_ro (by assumption) ?_ ?_ | exact kx_rs rfl | refine kx_ro rfl ?_ ?_))) (Nat.le_of_ble_eq_true rfl) (by rfl) (by rfl) (by dsimp only [List.set] <;> rfl) (fun s37 e37 => ?_)
  first | refine ri_aload_n C dX4_init_40 rfl ?_ | refine ri_aload_nQ C dX4_init_40 rfl ?_ | refine ri_aload_nN C dX4_init_40 rfl ?_
  refine ri_sipush C dX4_init_41 kc_s11336 ?_
  refine ri_newa C 0 .int (11336, .inl (fun _ => 0)) (1, 5) (11336) dX4_init_44 rfl rfl q664 (fun _ => rfl) rfl (by decide) (Nat.le_of_ble_eq_true rfl) (Nat.le_of_ble_eq_true rfl) (fun q44 s44 e44 f44 => ?_)
  refine ri_putf C dX4_init_46 fd_q2974_3 (fun _ => ⟨rfl, rfl⟩) (by first | assumption | (repeat (first | assumption | exact kx_rs (by assumption) | exact kx_ne2 (by omega) | exact kx_ne1 (by omega) | refine kx_ro (by assumption) ?_ ?_ | exact kx_rs rfl | refine kx_ro rfl ?_ ?_))) (Nat.le_of_ble_eq_true rfl) (by rfl) (by rfl) (by dsimp only [List.set] <;> rfl) (fun s46 e46 => ?_)
  first | refine ri_aload_n C dX4_init_49 rfl ?_ | refine ri_aload_nQ C dX4_init_49 rfl ?_ | refine ri_aload_nN C dX4_init_49 rfl ?_
  refine ri_sipush C dX4_init_50 kc_s2160 ?_
  refine ri_newa C 0 .int (2160, .inl (fun _ => 0)) (1, 6) (2160) dX4_init_53 rfl rfl q664 (fun _ => rfl) rfl (by decide) (Nat.le_of_ble_eq_true rfl) (Nat.le_of_ble_eq_true rfl) (fun q53 s53 e53 f53 => ?_)
  refine ri_putf C dX4_init_55 fd_q2975_3 (fun _ => ⟨rfl, rfl⟩) (by first | assumption | (repeat (first | assumption | exact kx_rs (by assumption) | exact kx_ne2 (by omega) | exact kx_ne1 (by omega) | refine kx_ro (by assumption) ?_ ?_ | exact kx_rs rfl | refine kx_ro rfl ?_ ?_))) (Nat.le_of_ble_eq_true rfl) (by rfl) (by rfl) (by dsimp only [List.set] <;> rfl) (fun s55 e55 => ?_)
  first | refine ri_aload_n C dX4_init_58 rfl ?_ | refine ri_aload_nQ C dX4_init_58 rfl ?_ | refine ri_aload_nN C dX4_init_58 rfl ?_
  refine ri_sipush C dX4_init_59 kc_s2160 ?_
  refine ri_newa C 0 .int (2160, .inl (fun _ => 0)) (1, 7) (2160) dX4_init_62 rfl rfl q664 (fun _ => rfl) rfl (by decide) (Nat.le_of_ble_eq_true rfl) (Nat.le_of_ble_eq_true rfl) (fun q62 s62 e62 f62 => ?_)
  refine ri_putf C dX4_init_64 fd_q2976_3 (fun _ => ⟨rfl, rfl⟩) (by first | assumption | (repeat (first | assumption | exact kx_rs (by assumption) | exact kx_ne2 (by omega) | exact kx_ne1 (by omega) | refine kx_ro (by assumption) ?_ ?_ | exact kx_rs rfl | refine kx_ro rfl ?_ ?_))) (Nat.le_of_ble_eq_true rfl) (by rfl) (by rfl) (by dsimp only [List.set] <;> rfl) (fun s64 e64 => ?_)
  first | refine ri_aload_n C dX4_init_67 rfl ?_ | refine ri_aload_nQ C dX4_init_67 rfl ?_ | refine ri_aload_nN C dX4_init_67 rfl ?_
  refine ri_sipush C dX4_init_68 kc_s700 ?_
  refine ri_newa C 0 .int (700, .inl (fun _ => 0)) (1, 11) (700) dX4_init_71 rfl rfl q664 (fun _ => rfl) rfl (by decide) (Nat.le_of_ble_eq_true rfl) (Nat.le_of_ble_eq_true rfl) (fun q71 s71 e71 f71 => ?_)
  refine ri_putf C dX4_init_73 fd_q2980_3 (fun _ => ⟨rfl, rfl⟩) (by first | assumption | (repeat (first | assumption | exact kx_rs (by assumption) | exact kx_ne2 (by omega) | exact kx_ne1 (by omega) | refine kx_ro (by assumption) ?_ ?_ | exact kx_rs rfl | refine kx_ro rfl ?_ ?_))) (Nat.le_of_ble_eq_true rfl) (by rfl) (by rfl) (by dsimp only [List.set] <;> rfl) (fun s73 e73 => ?_)
  first | refine ri_aload_n C dX4_init_76 rfl ?_ | refine ri_aload_nQ C dX4_init_76 rfl ?_ | refine ri_aload_nN C dX4_init_76 rfl ?_
  refine ri_iconst C dX4_init_77 kc_im1 ?_
  refine ri_putf C dX4_init_78 fd_q2983_3 (fun h => nomatch h) (by first | assumption | (repeat (first | assumption | exact kx_rs (by assumption) | exact kx_ne2 (by omega) | exact kx_ne1 (by omega) | refine kx_ro (by assumption) ?_ ?_ | exact kx_rs rfl | refine kx_ro rfl ?_ ?_))) (Nat.le_of_ble_eq_true rfl) (by rfl) (by rfl) (by dsimp only [List.set] <;> rfl) (fun s78 e78 => ?_)
  first | refine ri_aload_n C dX4_init_81 rfl ?_ | refine ri_aload_nQ C dX4_init_81 rfl ?_ | refine ri_aload_nN C dX4_init_81 rfl ?_
  refine ri_bipush C dX4_init_82 kc_b6 ?_
  refine ri_newa C 0 .int (6, .inl (fun _ => 0)) (1, 22) (6) dX4_init_84 rfl rfl q664 (fun _ => rfl) rfl (by decide) (Nat.le_of_ble_eq_true rfl) (Nat.le_of_ble_eq_true rfl) (fun q84 s84 e84 f84 => ?_)
  refine ri_putf C dX4_init_86 fd_q2991_3 (fun _ => ⟨rfl, rfl⟩) (by first | assumption | (repeat (first | assumption | exact kx_rs (by assumption) | exact kx_ne2 (by omega) | exact kx_ne1 (by omega) | refine kx_ro (by assumption) ?_ ?_ | exact kx_rs rfl | refine kx_ro rfl ?_ ?_))) (Nat.le_of_ble_eq_true rfl) (by rfl) (by rfl) (by dsimp only [List.set] <;> rfl) (fun s86 e86 => ?_)
  first | refine ri_aload_n C dX4_init_89 rfl ?_ | refine ri_aload_nQ C dX4_init_89 rfl ?_ | refine ri_aload_nN C dX4_init_89 rfl ?_
  refine ri_bipush C dX4_init_90 kc_b31 ?_
  refine ri_newa C 0 .int (31, .inl (fun _ => 0)) (1, 23) (31) dX4_init_92 rfl rfl q664 (fun _ => rfl) rfl (by decide) (Nat.le_of_ble_eq_true rfl) (Nat.le_of_ble_eq_true rfl) (fun q92 s92 e92 f92 => ?_)
  refine ri_putf C dX4_init_94 fd_q2992_3 (fun _ => ⟨rfl, rfl⟩) (by first | assumption | (repeat (first | assumption | exact kx_rs (by assumption) | exact kx_ne2 (by omega) | exact kx_ne1 (by omega) | refine kx_ro (by assumption) ?_ ?_ | exact kx_rs rfl | refine kx_ro rfl ?_ ?_))) (Nat.le_of_ble_eq_true rfl) (by rfl) (by rfl) (by dsimp only [List.set] <;> rfl) (fun s94 e94 => ?_)
  first | refine ri_aload_n C dX4_init_97 rfl ?_ | refine ri_aload_nQ C dX4_init_97 rfl ?_ | refine ri_aload_nN C dX4_init_97 rfl ?_
  refine ri_sipush C dX4_init_98 kc_s186 ?_
  refine ri_newa C 0 .int (186, .inl (fun _ => 0)) (1, 24) (186) dX4_init_101 rfl rfl q664 (fun _ => rfl) rfl (by decide) (Nat.le_of_ble_eq_true rfl) (Nat.le_of_ble_eq_true rfl) (fun q101 s101 e101 f101 => ?_)
  refine ri_putf C dX4_init_103 fd_q2993_3 (fun _ => ⟨rfl, rfl⟩) (by first | assumption | (repeat (first | assumption | exact kx_rs (by assumption) | exact kx_ne2 (by omega) | exact kx_ne1 (by omega) | refine kx_ro (by assumption) ?_ ?_ | exact kx_rs rfl | refine kx_ro rfl ?_ ?_))) (Nat.le_of_ble_eq_true rfl) (by rfl) (by rfl) (by dsimp only [List.set] <;> rfl) (fun s103 e103 => ?_)
  first | refine ri_aload_n C dX4_init_106 rfl ?_ | refine ri_aload_nQ C dX4_init_106 rfl ?_ | refine ri_aload_nN C dX4_init_106 rfl ?_
  refine ri_sipush C dX4_init_107 kc_s192 ?_
  refine ri_newa C 0 .int (192, .inl (fun _ => 0)) (1, 26) (192) dX4_init_110 rfl rfl q664 (fun _ => rfl) rfl (by decide) (Nat.le_of_ble_eq_true rfl) (Nat.le_of_ble_eq_true rfl) (fun q110 s110 e110 f110 => ?_)
  refine ri_putf C dX4_init_112 fd_q2995_3 (fun _ => ⟨rfl, rfl⟩) (by first | assumption | (repeat (first | assumption | exact kx_rs (by assumption) | exact kx_ne2 (by omega) | exact kx_ne1 (by omega) | refine kx_ro (by assumption) ?_ ?_ | exact kx_rs rfl | refine kx_ro rfl ?_ ?_))) (Nat.le_of_ble_eq_true rfl) (by rfl) (by rfl) (by dsimp only [List.set] <;> rfl) (fun s112 e112 => ?_)
  first | refine ri_aload_n C dX4_init_115 rfl ?_ | refine ri_aload_nQ C dX4_init_115 rfl ?_ | refine ri_aload_nN C dX4_init_115 rfl ?_
  refine ri_bipush C dX4_init_116 kc_b60 ?_
  refine ri_newa C 0 .int (60, .inl (fun _ => 0)) (1, 27) (60) dX4_init_118 rfl rfl q664 (fun _ => rfl) rfl (by decide) (Nat.le_of_ble_eq_true rfl) (Nat.le_of_ble_eq_true rfl) (fun q118 s118 e118 f118 => ?_)
  refine ri_putf C dX4_init_120 fd_q2996_3 (fun _ => ⟨rfl, rfl⟩) (by first | assumption | (repeat (first | assumption | exact kx_rs (by assumption) | exact kx_ne2 (by omega) | exact kx_ne1 (by omega) | refine kx_ro (by assumption) ?_ ?_ | exact kx_rs rfl | refine kx_ro rfl ?_ ?_))) (Nat.le_of_ble_eq_true rfl) (by rfl) (by rfl) (by dsimp only [List.set] <;> rfl) (fun s120 e120 => ?_)
  have b0 : s120 (1, 0) = some (mo, .inr (3, mo_L (mo_ad q8 q17 q26 q35 q44 q53 q62 q71 q84 q92 q101 q110 q118) mo_z0)) := kx_rs e120
  have bw : s120 (1, 1) = some ((mo_ad q8 q17 q26 q35 q44 q53 q62 q71 q84 q92 q101 q110 q118) 0, kx_ai G 1417 (mx_w (fun _ => 0))) := (by first | assumption | (repeat (first | assumption | exact kx_rs (by assumption) | exact kx_ne2 (by omega) | exact kx_ne1 (by omega) | refine kx_ro (by assumption) ?_ ?_ | exact kx_rs rfl | refine kx_ro rfl ?_ ?_)))
  first | refine ri_aload_n C dX4_init_123 rfl ?_ | refine ri_aload_nQ C dX4_init_123 rfl ?_ | refine ri_aload_nN C dX4_init_123 rfl ?_
  refine ri_callV C km_X4_begins q2958 qs57 dX4_init_124 (mt_X4_begins htr b0 bw) rfl rfl (kx_rcN C (by first | assumption | (repeat (first | assumption | exact kx_rs (by assumption) | exact kx_ne2 (by omega) | exact kx_ne1 (by omega) | refine kx_ro (by assumption) ?_ ?_ | exact kx_rs rfl | refine kx_ro rfl ?_ ?_))) rfl) ⟨⟨(Nat.le_of_ble_eq_true rfl), (Nat.le_of_ble_eq_true rfl)⟩, (Nat.le_of_ble_eq_true rfl), (Nat.le_of_ble_eq_true rfl), (Nat.le_of_ble_eq_true rfl)⟩ (fun v124 s124 h124 => ?_) (fun _ _ _ h => h.elim)
  obtain ⟨rfl, e124⟩ := h124
  have c0 := kx_ro e124 b0 (by decide)
  have cw := kx_rs e124
  first | refine ri_aload_n C dX4_init_127 rfl ?_ | refine ri_aload_nQ C dX4_init_127 rfl ?_ | refine ri_aload_nN C dX4_init_127 rfl ?_
  refine ri_bipush C dX4_init_128 kc_b14 ?_
  refine ri_iconst C dX4_init_130 kc_i2 ?_
  refine ri_iconst C dX4_init_131 kc_i0 ?_
  refine ri_bipush C dX4_init_132 kc_b11 ?_
  refine ri_iconst C dX4_init_134 kc_i0 ?_
  refine ri_bipush C dX4_init_135 kc_b100 ?_
  refine ri_callV C km_X4_adds q2962 qs58 dX4_init_137 (mt_X4_adds htr (u := mx_i0) c0 cw (by rw [mx_i0_0]; decide)) rfl rfl (kx_rcN C (by first | assumption | (repeat (first | assumption | exact kx_rs (by assumption) | exact kx_ne2 (by omega) | exact kx_ne1 (by omega) | refine kx_ro (by assumption) ?_ ?_ | exact kx_rs rfl | refine kx_ro rfl ?_ ?_))) rfl) ⟨⟨(Nat.le_of_ble_eq_true rfl), (Nat.le_of_ble_eq_true rfl)⟩, (Nat.le_of_ble_eq_true rfl), (Nat.le_of_ble_eq_true rfl), (Nat.le_of_ble_eq_true rfl)⟩ (fun v137 s137 h137 => ?_) (fun _ _ _ h => h.elim)
  obtain ⟨rfl, e137⟩ := h137
  have c137 := kx_ro e137 c0 (by decide)
  have w137 := kx_rs e137
  refine ri_istore_n C dX4_init_140 rfl (by decide) ?_
  first | refine ri_aload_n C dX4_init_141 rfl ?_ | refine ri_aload_nQ C dX4_init_141 rfl ?_ | refine ri_aload_nN C dX4_init_141 rfl ?_
  refine ri_iconst C dX4_init_142 kc_i0 ?_
  refine ri_iconst C dX4_init_143 kc_i4 ?_
  refine ri_iconst C dX4_init_144 kc_i0 ?_
  refine ri_iconst C dX4_init_145 kc_i1 ?_
  refine ri_iconst C dX4_init_146 kc_i2 ?_
  refine ri_bipush C dX4_init_147 kc_b120 ?_
  refine ri_callV C km_X4_adds q2962 qs58 dX4_init_149 (mt_X4_adds htr (u := mx_i1r) c137 w137 (by rw [mx_i1r, mx_adds_0, mx_i0_0]; decide)) rfl rfl (kx_rcN C (by first | assumption | (repeat (first | assumption | exact kx_rs (by assumption) | exact kx_ne2 (by omega) | exact kx_ne1 (by omega) | refine kx_ro (by assumption) ?_ ?_ | exact kx_rs rfl | refine kx_ro rfl ?_ ?_))) rfl) ⟨⟨(Nat.le_of_ble_eq_true rfl), (Nat.le_of_ble_eq_true rfl)⟩, (Nat.le_of_ble_eq_true rfl), (Nat.le_of_ble_eq_true rfl), (Nat.le_of_ble_eq_true rfl)⟩ (fun v149 s149 h149 => ?_) (fun _ _ _ h => h.elim)
  obtain ⟨rfl, e149⟩ := h149
  have c149 := kx_ro e149 c137 (by decide)
  have w149 := kx_rs e149
  refine ri_istore_n C dX4_init_152 rfl (by decide) ?_
  first | refine ri_aload_n C dX4_init_153 rfl ?_ | refine ri_aload_nQ C dX4_init_153 rfl ?_ | refine ri_aload_nN C dX4_init_153 rfl ?_
  refine ri_bipush C dX4_init_154 kc_b8 ?_
  refine ri_bipush C dX4_init_156 kc_b12 ?_
  refine ri_iconst C dX4_init_158 kc_i2 ?_
  refine ri_bipush C dX4_init_159 kc_b9 ?_
  refine ri_iconst C dX4_init_161 kc_i1 ?_
  refine ri_bipush C dX4_init_162 kc_b80 ?_
  refine ri_callV C km_X4_adds q2962 qs58 dX4_init_164 (mt_X4_adds htr (u := mx_i2r) c149 w149 (by rw [mx_i2r, mx_adds_0, mx_i1r, mx_adds_0, mx_i0_0]; decide)) rfl rfl (kx_rcN C (by first | assumption | (repeat (first | assumption | exact kx_rs (by assumption) | exact kx_ne2 (by omega) | exact kx_ne1 (by omega) | refine kx_ro (by assumption) ?_ ?_ | exact kx_rs rfl | refine kx_ro rfl ?_ ?_))) rfl) ⟨⟨(Nat.le_of_ble_eq_true rfl), (Nat.le_of_ble_eq_true rfl)⟩, (Nat.le_of_ble_eq_true rfl), (Nat.le_of_ble_eq_true rfl), (Nat.le_of_ble_eq_true rfl)⟩ (fun v164 s164 h164 => ?_) (fun _ _ _ h => h.elim)
  obtain ⟨rfl, e164⟩ := h164
  have c164 := kx_ro e164 c149 (by decide)
  have w164 := kx_rs e164
  refine ri_istore_n C dX4_init_167 rfl (by decide) ?_
  first | refine ri_aload_n C dX4_init_168 rfl ?_ | refine ri_aload_nQ C dX4_init_168 rfl ?_ | refine ri_aload_nN C dX4_init_168 rfl ?_
  refine ri_bipush C dX4_init_169 kc_b10 ?_
  refine ri_bipush C dX4_init_171 kc_b10 ?_
  refine ri_iconst C dX4_init_173 kc_i0 ?_
  refine ri_bipush C dX4_init_174 kc_b11 ?_
  refine ri_iconst C dX4_init_176 kc_i3 ?_
  refine ri_sipush C dX4_init_177 kc_s300 ?_
  refine ri_callV C km_X4_adds q2962 qs58 dX4_init_180 (mt_X4_adds htr (u := mx_i3r) c164 w164 (by rw [mx_i3r, mx_adds_0, mx_i2r, mx_adds_0, mx_i1r, mx_adds_0, mx_i0_0]; decide)) rfl rfl (kx_rcN C (by first | assumption | (repeat (first | assumption | exact kx_rs (by assumption) | exact kx_ne2 (by omega) | exact kx_ne1 (by omega) | refine kx_ro (by assumption) ?_ ?_ | exact kx_rs rfl | refine kx_ro rfl ?_ ?_))) rfl) ⟨⟨(Nat.le_of_ble_eq_true rfl), (Nat.le_of_ble_eq_true rfl)⟩, (Nat.le_of_ble_eq_true rfl), (Nat.le_of_ble_eq_true rfl), (Nat.le_of_ble_eq_true rfl)⟩ (fun v180 s180 h180 => ?_) (fun _ _ _ h => h.elim)
  obtain ⟨rfl, e180⟩ := h180
  have c180 := kx_ro e180 c164 (by decide)
  have w180 := kx_rs e180
  refine ri_istore_n C dX4_init_183 rfl (by decide) ?_
  refine ri_vret C hQ dX4_init_184 (Nat.le_of_ble_eq_true rfl) (Nat.le_of_ble_eq_true rfl) ⟨rfl, (mo_ad q8 q17 q26 q35 q44 q53 q62 q71 q84 q92 q101 q110 q118), ?_, ?_⟩
  · refine ⟨c180, w180, ?_, ?_, ?_, ?_, ?_, ?_, ?_, ?_, ?_, ?_, ?_, ?_⟩
    · exact (show _ = some (q17, kx_ai G 1417 (fun _ => 0)) from (by first | assumption | (repeat (first | assumption | exact kx_rs (by assumption) | exact kx_ne2 (by omega) | exact kx_ne1 (by omega) | refine kx_ro (by assumption) ?_ ?_ | exact kx_rs rfl | refine kx_ro rfl ?_ ?_))))
    · exact (show _ = some (q26, kx_ai G 1417 (fun _ => 0)) from (by first | assumption | (repeat (first | assumption | exact kx_rs (by assumption) | exact kx_ne2 (by omega) | exact kx_ne1 (by omega) | refine kx_ro (by assumption) ?_ ?_ | exact kx_rs rfl | refine kx_ro rfl ?_ ?_))))
    · exact (show _ = some (q35, kx_ai G 1417 (fun _ => 0)) from (by first | assumption | (repeat (first | assumption | exact kx_rs (by assumption) | exact kx_ne2 (by omega) | exact kx_ne1 (by omega) | refine kx_ro (by assumption) ?_ ?_ | exact kx_rs rfl | refine kx_ro rfl ?_ ?_))))
    · exact (show _ = some (q44, kx_ai G 11336 (fun _ => 0)) from (by first | assumption | (repeat (first | assumption | exact kx_rs (by assumption) | exact kx_ne2 (by omega) | exact kx_ne1 (by omega) | refine kx_ro (by assumption) ?_ ?_ | exact kx_rs rfl | refine kx_ro rfl ?_ ?_))))
    · exact (show _ = some (q53, kx_ai G 2160 (fun _ => 0)) from (by first | assumption | (repeat (first | assumption | exact kx_rs (by assumption) | exact kx_ne2 (by omega) | exact kx_ne1 (by omega) | refine kx_ro (by assumption) ?_ ?_ | exact kx_rs rfl | refine kx_ro rfl ?_ ?_))))
    · exact (show _ = some (q62, kx_ai G 2160 (fun _ => 0)) from (by first | assumption | (repeat (first | assumption | exact kx_rs (by assumption) | exact kx_ne2 (by omega) | exact kx_ne1 (by omega) | refine kx_ro (by assumption) ?_ ?_ | exact kx_rs rfl | refine kx_ro rfl ?_ ?_))))
    · exact (show _ = some (q71, kx_ai G 700 (fun _ => 0)) from (by first | assumption | (repeat (first | assumption | exact kx_rs (by assumption) | exact kx_ne2 (by omega) | exact kx_ne1 (by omega) | refine kx_ro (by assumption) ?_ ?_ | exact kx_rs rfl | refine kx_ro rfl ?_ ?_))))
    · exact (show _ = some (q84, kx_ai G 6 (fun _ => 0)) from (by first | assumption | (repeat (first | assumption | exact kx_rs (by assumption) | exact kx_ne2 (by omega) | exact kx_ne1 (by omega) | refine kx_ro (by assumption) ?_ ?_ | exact kx_rs rfl | refine kx_ro rfl ?_ ?_))))
    · exact (show _ = some (q92, kx_ai G 31 (fun _ => 0)) from (by first | assumption | (repeat (first | assumption | exact kx_rs (by assumption) | exact kx_ne2 (by omega) | exact kx_ne1 (by omega) | refine kx_ro (by assumption) ?_ ?_ | exact kx_rs rfl | refine kx_ro rfl ?_ ?_))))
    · exact (show _ = some (q101, kx_ai G 186 (fun _ => 0)) from (by first | assumption | (repeat (first | assumption | exact kx_rs (by assumption) | exact kx_ne2 (by omega) | exact kx_ne1 (by omega) | refine kx_ro (by assumption) ?_ ?_ | exact kx_rs rfl | refine kx_ro rfl ?_ ?_))))
    · exact (show _ = some (q110, kx_ai G 192 (fun _ => 0)) from (by first | assumption | (repeat (first | assumption | exact kx_rs (by assumption) | exact kx_ne2 (by omega) | exact kx_ne1 (by omega) | refine kx_ro (by assumption) ?_ ?_ | exact kx_rs rfl | refine kx_ro rfl ?_ ?_))))
    · exact (show _ = some (q118, kx_ai G 60 (fun _ => 0)) from (by first | assumption | (repeat (first | assumption | exact kx_rs (by assumption) | exact kx_ne2 (by omega) | exact kx_ne1 (by omega) | refine kx_ro (by assumption) ?_ ?_ | exact kx_rs rfl | refine kx_ro rfl ?_ ?_))))
  · repeat (first | exact kx_of_r | refine kx_of_u (by assumption) ?_)
