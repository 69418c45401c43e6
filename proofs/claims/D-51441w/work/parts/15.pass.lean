/-! THE PURE SIDE, a day -/
set_option maxRecDepth 100000
def mx_f (u : Nat → Nat) (wi mo k : Nat) : Bool := decide (k < u 0) && mx_sp u k wi mo
def mx_M (f : Nat → Bool) (we : Nat) (u : Nat → Nat) : Nat → Nat → Nat
  | 0 => u
  | n + 1 => bif f (n / 24) && f (n % 24) then mx_mt (mx_M f we u n) (n / 24) (n % 24) we else mx_M f we u n
def mx_L (v : Nat → Nat) (k we : Nat) : Nat → Nat := if mx_p v k 4 = we then mx_rise v k else mx_fall v k
def mx_R (f : Nat → Bool) (we : Nat) (u : Nat → Nat) : Nat → Nat → Nat
  | 0 => u
  | k + 1 => bif f k then mx_L (mx_R f we u k) k we else mx_R f we u k
def mx_ul (u : Nat → Nat) (wi mo : Nat) (k : Nat) : Bool := mx_f u wi mo k && !decide (mx_told u wi mo = some (mx_p u k 4))
def mx_pass (u : Nat → Nat) (wi we mo : Nat) : Nat → Nat :=
  mx_inc (mx_year (mx_cn (mx_R (mx_f u wi mo) we (mx_M (mx_f u wi mo) we u 576) (u 0)) 8 (decide (0 < mx_cnt (mx_ul u wi mo) (u 0))).toNat) (mx_told u wi mo) we) 2
theorem mx_M_0 {f : Nat → Bool} {we : Nat} {u : Nat → Nat} : mx_M f we u 0 = u := rfl
theorem mx_M_t {f : Nat → Bool} {we : Nat} {u : Nat → Nat} {a b : Nat} (hb : b < 24) (h1 : f a = true) (h2 : f b = true) : mx_M f we u (24 * a + (b + 1)) = mx_mt (mx_M f we u (24 * a + b)) a b we := by
  rw [← Nat.add_assoc, mx_M, show (24 * a + b) / 24 = a by omega, show (24 * a + b) % 24 = b by omega, h1, h2]; rfl
theorem mx_M_f {f : Nat → Bool} {we : Nat} {u : Nat → Nat} {a b : Nat} (hb : b < 24) (h : f b = false) : mx_M f we u (24 * a + (b + 1)) = mx_M f we u (24 * a + b) := by
  rw [← Nat.add_assoc, mx_M, show (24 * a + b) / 24 = a by omega, show (24 * a + b) % 24 = b by omega, h, Bool.and_false]; rfl
theorem mx_M_g {f : Nat → Bool} {we : Nat} {u : Nat → Nat} {a : Nat} (h : f a = false) : ∀ b, b ≤ 24 → mx_M f we u (24 * a + b) = mx_M f we u (24 * a)
  | 0, _ => rfl
  | b + 1, hb => by
    rw [← Nat.add_assoc, mx_M, show (24 * a + b) / 24 = a by omega, h, Bool.false_and]
    exact mx_M_g h b (by omega)
theorem mx_M_e {f : Nat → Bool} {we : Nat} {u : Nat → Nat} {a n : Nat} (h : ∀ b, n ≤ b → f b = false) : ∀ b, n ≤ b → b ≤ 24 → mx_M f we u (24 * a + b) = mx_M f we u (24 * a + n)
  | 0, h0, _ => by rw [show n = 0 by omega]
  | b + 1, h0, hb => by
    by_cases q : n = b + 1
    · rw [q]
    · rw [mx_M_f (by omega) (h b (by omega))]
      exact mx_M_e h b (by omega) (by omega)
theorem mx_M_n {f : Nat → Bool} {we : Nat} {u : Nat → Nat} {n : Nat} (h : ∀ b, n ≤ b → f b = false) : ∀ a, n ≤ a → mx_M f we u (24 * a) = mx_M f we u (24 * n)
  | 0, h0 => by rw [show n = 0 by omega]
  | a + 1, h0 => by
    by_cases q : n = a + 1
    · rw [q]
    · have e := mx_M_g (we := we) (u := u) (h a (by omega)) 24 (by omega)
      rw [show 24 * (a + 1) = 24 * a + 24 by omega, e]
      exact mx_M_n h a (by omega)
theorem mx_mt_i {u : Nat → Nat} {q r we i : Nat} (h : i < 265) : mx_mt u q r we i = u i := by
  unfold mx_mt
  rw [mx_s_o (by omega), mx_s_o (by omega)]
theorem mx_M_i {f : Nat → Bool} {we : Nat} {u : Nat → Nat} {i : Nat} (h : i < 265) : ∀ n, mx_M f we u n i = u i
  | 0 => rfl
  | n + 1 => by
    unfold mx_M
    cases f (n / 24) && f (n % 24)
    · exact mx_M_i h n
    · exact (mx_mt_i h).trans (mx_M_i h n)
theorem mx_rise_o {u : Nat → Nat} {k i : Nat} (h1 : i ≠ 12) (h2 : i ≠ 25 + 10 * k + 6) (h3 : i ≠ 25 + 10 * k + 7) : mx_rise u k i = u i := by
  unfold mx_rise
  rw [mx_cn_i (by omega)]
  exact (mx_s_o h2).trans (mx_s_o h3)
theorem mx_fall_o {u : Nat → Nat} {k i : Nat} (h1 : i ≠ 13) (h2 : i ≠ 25 + 10 * k + 6) (h3 : i ≠ 25 + 10 * k + 8) : mx_fall u k i = u i := by
  unfold mx_fall
  rw [mx_cn_i (by omega)]
  exact (mx_s_o h2).trans (mx_s_o h3)
theorem mx_L_o {u : Nat → Nat} {k we i : Nat} (h1 : i ≠ 12) (h0 : i ≠ 13) (h2 : i ≠ 25 + 10 * k + 6) (h3 : i ≠ 25 + 10 * k + 7) (h4 : i ≠ 25 + 10 * k + 8) : mx_L u k we i = u i := by
  unfold mx_L
  split
  · exact mx_rise_o h1 h2 h3
  · exact mx_fall_o h0 h2 h4
theorem mx_L_b {u : Nat → Nat} {k we i : Nat} (h : i < 25) : mx_L u k we i ≤ u i + 1 := by
  unfold mx_L mx_rise mx_fall mx_cn
  split
  · by_cases e : i = 12
    · subst e; rw [mx_s_s]; exact Nat.add_le_add_right (Nat.le_of_eq ((mx_s_o (by omega)).trans (mx_s_o (by omega)))) 1
    · rw [mx_s_o (by omega)]; exact Nat.le_trans (Nat.le_of_eq ((mx_s_o (by omega)).trans (mx_s_o (by omega)))) (Nat.le_add_right _ _)
  · by_cases e : i = 13
    · subst e; rw [mx_s_s]; exact Nat.add_le_add_right (Nat.le_of_eq ((mx_s_o (by omega)).trans (mx_s_o (by omega)))) 1
    · rw [mx_s_o (by omega)]; exact Nat.le_trans (Nat.le_of_eq ((mx_s_o (by omega)).trans (mx_s_o (by omega)))) (Nat.le_add_right _ _)
theorem mx_R_o {f : Nat → Bool} {we : Nat} {u : Nat → Nat} {i : Nat} (h1 : i ≠ 12) (h0 : i ≠ 13) (h2 : i < 25 ∨ 265 ≤ i) : ∀ n, n ≤ 24 → mx_R f we u n i = u i
  | 0, _ => rfl
  | n + 1, hn => by
    unfold mx_R
    cases f n
    · exact mx_R_o h1 h0 h2 n (by omega)
    · exact (mx_L_o h1 h0 (by omega) (by omega) (by omega)).trans (mx_R_o h1 h0 h2 n (by omega))
theorem mx_R_p {f : Nat → Bool} {we : Nat} {u : Nat → Nat} {k j : Nat} (hj : j < 10) : ∀ n, (j < 6 ∨ j = 9 ∨ n ≤ k) → mx_p (mx_R f we u n) k j = mx_p u k j
  | 0, _ => rfl
  | n + 1, h => by
    have ih := mx_R_p (f := f) (we := we) (u := u) (k := k) hj n (by omega)
    show mx_R f we u (n + 1) (25 + 10 * k + j) = _
    unfold mx_R
    cases f n
    · exact ih
    · exact (mx_L_o (by omega) (by omega) (by omega) (by omega) (by omega)).trans ih
theorem mx_R_b {f : Nat → Bool} {we : Nat} {u : Nat → Nat} {i : Nat} (h : i < 25) : ∀ n, mx_R f we u n i ≤ u i + n
  | 0 => Nat.le_refl _
  | n + 1 => by
    have ih := mx_R_b (f := f) (we := we) (u := u) h n
    unfold mx_R
    cases f n
    · exact Nat.le_succ_of_le ih
    · exact Nat.le_trans (mx_L_b h) (by omega)
theorem mx_R_t {f : Nat → Bool} {we : Nat} {u : Nat → Nat} {k : Nat} (h : f k = true) : mx_R f we u (k + 1) = mx_L (mx_R f we u k) k we := by rw [mx_R, h]; rfl
theorem mx_R_f {f : Nat → Bool} {we : Nat} {u : Nat → Nat} {k : Nat} (h : f k = false) : mx_R f we u (k + 1) = mx_R f we u k := by rw [mx_R, h]; rfl
/-- rows alike in what a rose's telling reads -/
def mx_eq (u v : Nat → Nat) : Prop := v 0 = u 0 ∧ v 5 = u 5 ∧ v 6 = u 6 ∧ v 7 = u 7 ∧ ∀ i, 25 ≤ i → i < 265 → v i = u i
/-- rows alike in what speaking reads -/
def mx_es (u v : Nat → Nat) : Prop := v 0 = u 0 ∧ ∀ k j, k < 24 → (j < 6 ∨ j = 9) → mx_p v k j = mx_p u k j
theorem mx_ok_e {u v : Nat → Nat} (h : mx_eq u v) (hu : mx_ok u) : mx_ok v := by
  obtain ⟨h0, h5, h6, h7, h⟩ := h
  obtain ⟨k0, k, k5, k6, k7⟩ := hu
  refine ⟨by omega, fun q hq => ?_, by omega, by omega, by omega⟩
  have g : ∀ j, j < 10 → mx_p v q j = mx_p u q j := fun j hj => h _ (by omega) (by omega)
  rw [g 0 (by omega), g 1 (by omega), g 2 (by omega), g 3 (by omega), g 4 (by omega), g 5 (by omega), g 6 (by omega), g 9 (by omega)]
  exact k q (by omega)
theorem mx_sp_e {u v : Nat → Nat} (h : mx_es u v) {k pt mo : Nat} (hk : k < 24) : mx_sp v k pt mo = mx_sp u k pt mo := by
  obtain ⟨h0, h⟩ := h
  have e0 := h k 0 hk (by omega)
  have e1 := h k 1 hk (by omega)
  have e2 := h k 2 hk (by omega)
  have e3 := h k 3 hk (by omega)
  have e9 : v (25 + 10 * k + 9) = u (25 + 10 * k + 9) := h k 9 hk (by omega)
  unfold mx_sp mx_live mx_hp mx_hm
  rw [e0, e1, e2, e3, e9]
theorem mx_f_e {u v : Nat → Nat} (hu : u 0 ≤ 24) (h : mx_es u v) {pt mo : Nat} : mx_f v pt mo = mx_f u pt mo := by
  funext k
  unfold mx_f
  rw [h.1]
  by_cases q : k < u 0
  · rw [mx_sp_e h (by omega)]
  · simp [q]
theorem mx_live_e {u v : Nat → Nat} (h : mx_es u v) {k : Nat} (hk : k < 24) : mx_live v k = mx_live u k := by
  have e9 : v (25 + 10 * k + 9) = u (25 + 10 * k + 9) := h.2 k 9 hk (by omega)
  unfold mx_live
  rw [e9]
theorem mx_lm_c {f g : Nat → Bool} : ∀ n, (∀ k, k < n → f k = g k) → mx_cnt f n = mx_cnt g n
  | 0, _ => rfl
  | n + 1, h => by rw [mx_cnt, mx_cnt, mx_lm_c n (fun k hk => h k (by omega)), h n (by omega)]
theorem mx_M_es {f : Nat → Bool} {we n : Nat} {u : Nat → Nat} : mx_es u (mx_M f we u n) := ⟨mx_M_i (by omega) n, fun k j hk hj => mx_M_i (by omega) n⟩
theorem mx_M_eq {f : Nat → Bool} {we n : Nat} {u : Nat → Nat} : mx_eq u (mx_M f we u n) := ⟨mx_M_i (by omega) n, mx_M_i (by omega) n, mx_M_i (by omega) n, mx_M_i (by omega) n, fun k _ hk => mx_M_i (by omega) n⟩
theorem mx_R_es {f : Nat → Bool} {we n : Nat} {u : Nat → Nat} (hn : n ≤ 24) : mx_es u (mx_R f we u n) := ⟨mx_R_o (by omega) (by omega) (by omega) n hn, fun k j hk hj => mx_R_p (by omega) n (by omega)⟩
theorem mx_es_t {u v w : Nat → Nat} (h : mx_es u v) (g : mx_es v w) : mx_es u w := ⟨g.1.trans h.1, fun k j hk hj => (g.2 k j hk hj).trans (h.2 k j hk hj)⟩
theorem mx_eq_t {u v w : Nat → Nat} (h : mx_eq u v) (g : mx_eq v w) : mx_eq u w := ⟨g.1.trans h.1, g.2.1.trans h.2.1, g.2.2.1.trans h.2.2.1, g.2.2.2.1.trans h.2.2.2.1, fun i h1 h2 => (g.2.2.2.2 i h1 h2).trans (h.2.2.2.2 i h1 h2)⟩
theorem mx_eq_es {u v : Nat → Nat} (h : mx_eq u v) : mx_es u v := ⟨h.1, fun k j hk hj => h.2.2.2.2 _ (by omega) (by omega)⟩
theorem mx_rise_w {v : Nat → Nat} {k : Nat} : mx_p (mx_rise v k) k 6 = Nat.min 999 (mx_p v k 6 + mx_p v k 6 * v 6 / 100 + 1) := by
  show mx_rise v k (25 + 10 * k + 6) = _
  unfold mx_rise
  rw [mx_cn_i (by omega)]
  exact mx_s_s
theorem mx_fall_w {v : Nat → Nat} {k : Nat} : mx_p (mx_fall v k) k 6 = Nat.max 1 (mx_p v k 6 - mx_p v k 6 * v 7 / 100 - 1) := by
  show mx_fall v k (25 + 10 * k + 6) = _
  unfold mx_fall
  rw [mx_cn_i (by omega)]
  exact mx_s_s
theorem mx_L_ok {v : Nat → Nat} {k we : Nat} (hv : mx_ok v) : mx_ok (mx_L v k we) := by
  obtain ⟨k0, h, k5, k6, k7⟩ := hv
  have e : ∀ i, i < 12 → mx_L v k we i = v i := fun i hi => mx_L_o (by omega) (by omega) (by omega) (by omega) (by omega)
  refine ⟨by rw [e 0 (by omega)]; exact k0, fun q hq => ?_, by rw [e 5 (by omega)]; exact k5, by rw [e 6 (by omega)]; exact k6, by rw [e 7 (by omega)]; exact k7⟩
  rw [e 0 (by omega)] at hq
  have g : ∀ j, (j < 6 ∨ j = 9) → mx_p (mx_L v k we) q j = mx_p v q j := fun j hj => mx_L_o (by omega) (by omega) (by omega) (by omega) (by omega)
  rw [g 0 (by omega), g 1 (by omega), g 2 (by omega), g 3 (by omega), g 4 (by omega), g 5 (by omega), g 9 (by omega)]
  have hh := h q hq
  have hw : 1 ≤ mx_p (mx_L v k we) q 6 ∧ mx_p (mx_L v k we) q 6 ≤ 999 := by
    by_cases c : q = k
    · subst c
      unfold mx_L
      split
      · rw [mx_rise_w, mx_mn]; split <;> omega
      · rw [mx_fall_w, mx_mx]; split <;> omega
    · have : mx_p (mx_L v k we) q 6 = mx_p v q 6 := mx_L_o (by omega) (by omega) (by omega) (by omega) (by omega)
      omega
  exact ⟨hh.1, hh.2.1, hh.2.2.1, hh.2.2.2.1, hh.2.2.2.2.1, hh.2.2.2.2.2.1, hh.2.2.2.2.2.2.1, hw.1, hw.2, hh.2.2.2.2.2.2.2.2.2⟩
theorem mx_R_ok {f : Nat → Bool} {we : Nat} {u : Nat → Nat} (hu : mx_ok u) : ∀ n, mx_ok (mx_R f we u n)
  | 0 => hu
  | n + 1 => by
    unfold mx_R
    cases f n
    · exact mx_R_ok hu n
    · exact mx_L_ok (mx_R_ok hu n)
theorem mx_year_o {u : Nat → Nat} {o : Option Nat} {we i : Nat} (h : i < 8 ∨ 11 < i ∧ i < 17 ∨ 25 ≤ i) : mx_year u o we i = u i := by
  have hi : mx_its o we < 4 := by unfold mx_its; split <;> (try split) <;> omega
  have e : ∀ a, a < 4 → ∀ v : Nat → Nat, mx_cn v a 1 i = v i := fun a ha v => mx_cn_i (by omega)
  unfold mx_year
  split
  · unfold mx_inc
    rw [mx_s_o (by omega), mx_s_o (by omega), e _ hi, e 0 (by omega)]
  · rw [e _ hi, e 0 (by omega)]
theorem mx_pass_o {u : Nat → Nat} {wi we mo i : Nat} (hu : u 0 ≤ 24) (h : i < 2 ∨ 2 < i ∧ i < 8) : mx_pass u wi we mo i = u i := by
  unfold mx_pass mx_inc
  rw [mx_s_o (by omega), mx_year_o (by omega), mx_cn_i (by omega), mx_R_o (by omega) (by omega) (by omega) _ hu, mx_M_i (by omega)]
theorem mx_pass_ok {u : Nat → Nat} {wi we mo : Nat} (hu : mx_ok u) : mx_ok (mx_pass u wi we mo) := by
  refine mx_ok_e (u := mx_R (mx_f u wi mo) we (mx_M (mx_f u wi mo) we u 576) (u 0)) ?_ (mx_R_ok (mx_ok_e mx_M_eq hu) _)
  have e : ∀ i, (i < 2 ∨ 2 < i ∧ i < 8 ∨ 25 ≤ i) → mx_pass u wi we mo i = mx_R (mx_f u wi mo) we (mx_M (mx_f u wi mo) we u 576) (u 0) i := fun i h => by
    unfold mx_pass mx_inc
    rw [mx_s_o (by omega), mx_year_o (by omega), mx_cn_i (by omega)]
  exact ⟨e _ (by omega), e _ (by omega), e _ (by omega), e _ (by omega), fun i h1 h2 => e _ (by omega)⟩
theorem mx_pass_d {u : Nat → Nat} {wi we mo : Nat} (hu : u 0 ≤ 24) : mx_pass u wi we mo 2 = u 2 + 1 := by
  unfold mx_pass mx_inc
  rw [mx_s_s, mx_year_o (by omega), mx_cn_i (by omega), mx_R_o (by omega) (by omega) (by omega) _ hu, mx_M_i (by omega)]
theorem mx_pass_es {u : Nat → Nat} {wi we mo : Nat} (hu : u 0 ≤ 24) : mx_es u (mx_pass u wi we mo) := by
  refine ⟨mx_pass_o hu (by omega), fun k j hk hj => ?_⟩
  show mx_pass u wi we mo (25 + 10 * k + j) = _
  unfold mx_pass mx_inc
  rw [mx_s_o (by omega), mx_year_o (by omega), mx_cn_i (by omega)]
  exact (mx_R_p (by omega) _ (by omega)).trans (mx_M_i (by omega) _)
theorem mx_told_b {u : Nat → Nat} {pt mo b : Nat} (h : mx_told u pt mo = some b) : b < 5 := mx_best_lt h
/-- all accounts and years at most B -/
def mx_le (B : Nat) (u : Nat → Nat) : Prop := ∀ i, i < 25 ∨ i < 265 ∧ ((i - 25) % 10 = 7 ∨ (i - 25) % 10 = 8) → u i ≤ B
theorem mx_inc_le {B j : Nat} {u : Nat → Nat} (h : mx_le B u) : mx_le (B + 1) (mx_inc u j) := fun i hi => by
  unfold mx_inc mx_s
  split
  · rename_i e; subst e; exact Nat.add_le_add_right (h i hi) 1
  · exact Nat.le_succ_of_le (h i hi)
theorem mx_cn_le {B a n : Nat} {u : Nat → Nat} (h : mx_le B u) (hn : n ≤ 1) : mx_le (B + 1) (mx_cn u a n) := fun i hi => by
  unfold mx_cn mx_s
  split
  · rename_i e; subst e; exact Nat.add_le_add (h _ hi) hn
  · exact Nat.le_succ_of_le (h i hi)
theorem mx_le_m {B C : Nat} {u : Nat → Nat} (h : mx_le B u) (hb : B ≤ C) : mx_le C u := fun i hi => Nat.le_trans (h i hi) hb
theorem mx_year_le {B we : Nat} {o : Option Nat} {u : Nat → Nat} (h : mx_le B u) : mx_le (B + 4) (mx_year u o we) := by
  unfold mx_year
  split
  · exact mx_inc_le (mx_inc_le (mx_cn_le (mx_cn_le h (by omega)) (by omega)))
  · exact mx_le_m (mx_cn_le (mx_cn_le h (by omega)) (by omega)) (by omega)
theorem mx_pp_le {B k j n : Nat} {u : Nat → Nat} (h : mx_le B u) (hk : k < 24) (hj : j < 10) (hn : j ≠ 7 → j ≠ 8 → False) (hb : n ≤ B + 1) : mx_le (B + 1) (mx_pp u k j n) := fun i hi => by
  unfold mx_pp mx_s
  split
  · exact hb
  · exact Nat.le_succ_of_le (h i hi)
theorem mx_L_le {B k we : Nat} {u : Nat → Nat} (h : mx_le B u) (hk : k < 24) : mx_le (B + 2) (mx_L u k we) := by
  have g7 : mx_p u k 7 ≤ B := h (25 + 10 * k + 7) (by omega)
  have g8 : mx_p u k 8 ≤ B := h (25 + 10 * k + 8) (by omega)
  have p6 : ∀ {C x : Nat} {v : Nat → Nat}, mx_le C v → mx_le C (mx_pp v k 6 x) := fun {C x v} hv i hi => by
    unfold mx_pp mx_s
    rw [if_neg (by omega)]
    exact hv i hi
  unfold mx_L mx_rise mx_fall
  split
  · exact mx_cn_le (p6 (mx_pp_le h hk (by omega) (by omega) (by omega))) (by omega)
  · exact mx_cn_le (p6 (mx_pp_le h hk (by omega) (by omega) (by omega))) (by omega)
theorem mx_R_le {f : Nat → Bool} {B we : Nat} {u : Nat → Nat} (h : mx_le B u) : ∀ n, n ≤ 24 → mx_le (B + 2 * n) (mx_R f we u n)
  | 0, _ => h
  | n + 1, hn => by
    have ih := mx_R_le (f := f) (we := we) h n (by omega)
    unfold mx_R
    cases f n
    · exact mx_le_m ih (by omega)
    · exact mx_L_le ih (by omega)
theorem mx_M_le {f : Nat → Bool} {B we n : Nat} {u : Nat → Nat} (h : mx_le B u) : mx_le B (mx_M f we u n) := fun i hi => by
  rw [mx_M_i (by omega)]; exact h i hi
theorem mx_pass_le {B wi we mo : Nat} {u : Nat → Nat} (hu : u 0 ≤ 24) (h : mx_le B u) : mx_le (B + 100) (mx_pass u wi we mo) := by
  unfold mx_pass
  refine mx_le_m (mx_inc_le (mx_year_le (mx_cn_le (mx_R_le (mx_M_le h) _ hu) (Bool.toNat_le _)))) (by omega)
theorem mx_o_eq {o : Option Nat} {b : Nat} (ho : ∀ a, o = some a → a < 5) (hb : b < 5) : (nI b = mx_o o) ↔ o = some b := by
  cases o with
  | none => exact ⟨fun h => absurd h (nI_m1 (by omega)), fun h => nomatch h⟩
  | some a =>
    have := ho a rfl
    constructor
    · intro h
      have e := congrArg Int32.toInt h
      show some a = some b
      simp only [mx_o] at e
      rw [nI_toInt (by omega), nI_toInt (by omega)] at e
      rw [show a = b by omega]
    · intro h; injection h with h; subst h; rfl
