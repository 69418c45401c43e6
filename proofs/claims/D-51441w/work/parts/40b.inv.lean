/-! THE PURE SIDE: what stays true of a rose's row through every change -/
set_option maxRecDepth 100000
theorem iv_sum {f : Nat → Bool} {v w : Nat → Nat} : ∀ {n : Nat}, (∀ k, k < n → v k = w k) → mx_sum f v n = mx_sum f w n
  | 0, _ => rfl
  | n + 1, h => by rw [mx_sum, mx_sum, iv_sum (fun k hk => h k (by omega)), h n (by omega)]
theorem iv_sum1 {v w : Nat → Nat} {k : Nat} (hk : w k = v k + 1) : ∀ {n : Nat}, (∀ j, j ≠ k → w j = v j) → mx_sum (fun _ => true) w n = mx_sum (fun _ => true) v n + (decide (k < n)).toNat
  | 0, _ => rfl
  | n + 1, h => by
    rw [mx_sum_t rfl, mx_sum_t rfl, iv_sum1 hk h]
    by_cases c : k = n
    · subst c; rw [hk, decide_eq_false (by omega), decide_eq_true (by omega)]; simp only [Bool.toNat_false, Bool.toNat_true]; omega
    · rw [h n (fun q => c q.symm)]
      by_cases d : k < n
      · rw [decide_eq_true d, decide_eq_true (by omega)]; omega
      · rw [decide_eq_false d, decide_eq_false (by omega)]; omega
theorem mx_ag2_e {u v : Nat → Nat} (h0 : v 0 = u 0) (h : ∀ i, i = 2 ∨ (8 ≤ i ∧ i ≤ 13) ∨ (17 ≤ i ∧ i < 25) ∨ (265 ≤ i ∧ i < 1417) → v i = u i) (hp : ∀ k, k < u 0 → mx_p v k 7 = mx_p u k 7 ∧ mx_p v k 8 = mx_p u k 8) (hu : mx_ag2 u) : mx_ag2 v := by
  obtain ⟨a1, a2, a3, a4, a5, a6⟩ := hu
  refine ⟨fun a b ha hb => ?_, ?_, ?_, fun k hk => ?_, ?_, ?_⟩
  · rw [h _ (by omega), h _ (by omega), h _ (by omega), h _ (by omega)]; exact a1 a b ha hb
  · rw [h0, h 12 (by omega), ← a2]; exact iv_sum (fun k hk => (hp k hk).1)
  · rw [h0, h 13 (by omega), ← a3]; exact iv_sum (fun k hk => (hp k hk).2)
  · rw [h _ (by omega), h _ (by omega), h _ (by omega)]; exact a4 k hk
  · rw [h 8 (by omega), h 2 (by omega)]; exact a5
  · rw [h 8 (by omega), h 9 (by omega), h 10 (by omega), h 11 (by omega)]; exact a6
theorem iv_M {f : Nat → Bool} {we : Nat} {u : Nat → Nat} {a b : Nat} (ha : a < 24) (hb : b < 24) : ∀ n, n ≤ 576 → mx_M f we u n (265 + 24 * a + b) = u (265 + 24 * a + b) + (decide (24 * a + b < n) && (f a && f b)).toNat ∧ mx_M f we u n (841 + 24 * a + b) = u (841 + 24 * a + b) + (decide (24 * a + b < n) && (f a && f b) && (decide (mx_p u a 4 = we) && !decide (mx_p u b 4 = we))).toNat
  | 0, _ => by simp [mx_M]
  | n + 1, hn => by
    obtain ⟨i1, i2⟩ := iv_M (f := f) (we := we) (u := u) ha hb n (by omega)
    by_cases c : 24 * a + b = n
    · have c1 : n / 24 = a := by omega
      have c2 : n % 24 = b := by omega
      rw [decide_eq_false (by omega), Bool.false_and, Bool.toNat_false, Nat.add_zero] at i1
      rw [decide_eq_false (by omega), Bool.false_and, Bool.false_and, Bool.toNat_false, Nat.add_zero] at i2
      rw [decide_eq_true (by omega), Bool.true_and]
      unfold mx_M
      rw [c1, c2]
      cases hf : (f a && f b)
      · simp only [cond_false, Bool.toNat_false, Nat.add_zero, Bool.false_and]; exact ⟨i1, i2⟩
      · simp only [cond_true, Bool.toNat_true, Bool.true_and]
        have e4 : ∀ q, q < 24 → mx_p (mx_M f we u n) q 4 = mx_p u q 4 := fun q hq => mx_M_i (by omega) n
        constructor
        · unfold mx_mt
          rw [mx_s_o (by omega), mx_s_s, i1]
        · unfold mx_mt
          rw [mx_s_s, i2, e4 a ha, e4 b hb]
    · have hd : decide (24 * a + b < n + 1) = decide (24 * a + b < n) := decide_eq_decide.mpr ⟨fun h => by omega, fun h => by omega⟩
      rw [hd]
      unfold mx_M
      cases hf : (f (n / 24) && f (n % 24))
      · exact ⟨i1, i2⟩
      · simp only [cond_true]
        unfold mx_mt
        rw [mx_s_o (by omega), mx_s_o (by omega), mx_s_o (by omega), mx_s_o (by omega)]
        exact ⟨i1, i2⟩
def iv_A (u : Nat → Nat) (n : Nat) : Prop := mx_sum (fun _ => true) (fun k => mx_p u k 7) n = u 12 ∧ mx_sum (fun _ => true) (fun k => mx_p u k 8) n = u 13
theorem iv_L {u : Nat → Nat} {n k we : Nat} (hn : n ≤ 24) (hk : k < n) (h : iv_A u n) : iv_A (mx_L u k we) n := by
  obtain ⟨h1, h2⟩ := h
  unfold mx_L
  split
  · have r7 : mx_p (mx_rise u k) k 7 = mx_p u k 7 + 1 := by
      show mx_rise u k (25 + 10 * k + 7) = _
      unfold mx_rise mx_pp
      rw [mx_cn_i (by omega), mx_s_o (by omega), mx_s_s]
    have r7o : ∀ j, j ≠ k → mx_p (mx_rise u k) j 7 = mx_p u j 7 := fun j hj => mx_rise_o (by omega) (by omega) (by omega)
    have r12 : mx_rise u k 12 = u 12 + 1 := by
      unfold mx_rise mx_cn mx_pp
      rw [mx_s_s, mx_s_o (by omega), mx_s_o (by omega)]
    refine ⟨?_, ?_⟩
    · rw [iv_sum1 (v := fun k => mx_p u k 7) r7 r7o, h1, r12, decide_eq_true hk]; rfl
    · rw [mx_rise_o (by omega) (by omega) (by omega), ← h2]
      exact iv_sum (fun j hj => mx_rise_o (by omega) (by omega) (by omega))
  · have r7 : mx_p (mx_fall u k) k 8 = mx_p u k 8 + 1 := by
      show mx_fall u k (25 + 10 * k + 8) = _
      unfold mx_fall mx_pp
      rw [mx_cn_i (by omega), mx_s_o (by omega), mx_s_s]
    have r7o : ∀ j, j ≠ k → mx_p (mx_fall u k) j 8 = mx_p u j 8 := fun j hj => mx_fall_o (by omega) (by omega) (by omega)
    have r12 : mx_fall u k 13 = u 13 + 1 := by
      unfold mx_fall mx_cn mx_pp
      rw [mx_s_s, mx_s_o (by omega), mx_s_o (by omega)]
    refine ⟨?_, ?_⟩
    · rw [mx_fall_o (by omega) (by omega) (by omega), ← h1]
      exact iv_sum (fun j hj => mx_fall_o (by omega) (by omega) (by omega))
    · rw [iv_sum1 (v := fun k => mx_p u k 8) r7 r7o, h2, r12, decide_eq_true hk]; rfl
theorem iv_R {f : Nat → Bool} {we : Nat} {u : Nat → Nat} {n : Nat} (hn : n ≤ 24) (h : iv_A u n) : ∀ m, m ≤ n → iv_A (mx_R f we u m) n
  | 0, _ => h
  | m + 1, hm => by
    have ih := iv_R (f := f) (we := we) hn h m (by omega)
    unfold mx_R
    cases f m
    · exact ih
    · exact iv_L hn (by omega) ih
theorem iv_its {o : Option Nat} {we : Nat} : mx_its o we = 1 ∨ mx_its o we = 2 ∨ mx_its o we = 3 := by
  unfold mx_its; split
  · omega
  · split <;> omega
theorem mx_cn_s {u : Nat → Nat} {a m : Nat} : mx_cn u a m (8 + a) = u (8 + a) + m := mx_s_s
/-- a day keeps that all agrees -/
theorem mx_pass_ag {u : Nat → Nat} {wi we mo : Nat} (hu : u 0 ≤ 24) (hd : u 2 < 720) (h : mx_ag2 u) : mx_ag2 (mx_pass u wi we mo) := by
  obtain ⟨a1, a2, a3, a4, a5, a6⟩ := h
  have hA : iv_A (mx_R (mx_f u wi mo) we (mx_M (mx_f u wi mo) we u 576) (u 0)) (u 0) := by
    refine iv_R hu ⟨?_, ?_⟩ _ (Nat.le_refl _)
    · rw [mx_M_i (by omega), ← a2]; exact iv_sum (fun j hj => mx_M_i (by omega) _)
    · rw [mx_M_i (by omega), ← a3]; exact iv_sum (fun j hj => mx_M_i (by omega) _)
  have hR : ∀ i, i ≠ 12 → i ≠ 13 → (i < 25 ∨ 265 ≤ i) → mx_R (mx_f u wi mo) we (mx_M (mx_f u wi mo) we u 576) (u 0) i = mx_M (mx_f u wi mo) we u 576 i := fun i h1 h2 h3 => mx_R_o h1 h2 h3 _ hu
  have hMi : ∀ i, i < 265 → mx_M (mx_f u wi mo) we u 576 i = u i := fun i hi => mx_M_i hi _
  have hM := fun a b ha hb => iv_M (f := mx_f u wi mo) (we := we) (u := u) (a := a) (b := b) ha hb 576 (Nat.le_refl _)
  have e265 : ∀ i, 265 ≤ i → mx_pass u wi we mo i = mx_M (mx_f u wi mo) we u 576 i := fun i hi => by
    unfold mx_pass mx_inc
    rw [mx_s_o (by omega), mx_year_o (by omega), mx_cn_i (by omega), hR i (by omega) (by omega) (by omega)]
  have e25 : ∀ i, (11 < i ∧ i < 16) ∨ 25 ≤ i → mx_pass u wi we mo i = mx_R (mx_f u wi mo) we (mx_M (mx_f u wi mo) we u 576) (u 0) i := fun i hi => by
    unfold mx_pass mx_inc
    rw [mx_s_o (by omega), mx_year_o (by omega), mx_cn_i (by omega)]
  -- accounts
  generalize hv : mx_cn (mx_R (mx_f u wi mo) we (mx_M (mx_f u wi mo) we u 576) (u 0)) 8 (decide (0 < mx_cnt (mx_ul u wi mo) (u 0))).toNat = v
  have hvi : ∀ i, (i < 12 ∨ (16 < i ∧ i < 25)) → v i = u i := fun i hi => by
    rw [← hv, mx_cn_i (by omega), hR i (by omega) (by omega) (by omega), hMi i (by omega)]
  have hP : mx_pass u wi we mo = mx_inc (mx_year v (mx_told u wi mo) we) 2 := by unfold mx_pass; rw [hv]
  have hi := iv_its (o := mx_told u wi mo) (we := we)
  generalize mx_its (mx_told u wi mo) we = c at hi
  have hy : v 2 / 360 ≤ 1 := by rw [hvi 2 (by omega)]; omega
  have hY : ∀ i, i ≠ 2 → mx_pass u wi we mo i = mx_inc (mx_inc (mx_cn (mx_cn v 0 1) (mx_its (mx_told u wi mo) we) 1) (17 + 4 * (v 2 / 360))) (17 + 4 * (v 2 / 360) + mx_its (mx_told u wi mo) we) i := fun i hi => by
    rw [hP]; unfold mx_inc; rw [mx_s_o hi]; unfold mx_year; rw [if_pos hy]; rfl
  have hc := iv_its (o := mx_told u wi mo) (we := we)
  generalize mx_its (mx_told u wi mo) we = c at hY hc
  have hy2 : v 2 / 360 = 0 ∨ v 2 / 360 = 1 := by omega
  generalize v 2 / 360 = y at hY hy2
  have hY1 : ∀ i, i < 17 → i ≠ 2 → mx_pass u wi we mo i = mx_cn (mx_cn v 0 1) c 1 i := fun i h1 h2 => by
    rw [hY i h2]; unfold mx_inc; rw [mx_s_o (by omega), mx_s_o (by omega)]
  have hS : ∀ j, j < 4 → ∀ x, x < 2 → mx_pass u wi we mo (17 + 4 * x + j) = u (17 + 4 * x + j) + (if x = y ∧ (j = 0 ∨ j = c) then 1 else 0) := fun j hj x hx => by
    rw [hY _ (by omega)]
    have ev : mx_cn (mx_cn v 0 1) c 1 (17 + 4 * x + j) = u (17 + 4 * x + j) := by rw [mx_cn_i (by omega), mx_cn_i (by omega), hvi _ (by omega)]
    unfold mx_inc
    by_cases q : x = y
    · subst q
      by_cases r : j = c
      · subst r
        rw [mx_s_s, mx_s_o (by omega), ev, if_pos ⟨rfl, Or.inr rfl⟩]
      · rw [mx_s_o (by omega)]
        by_cases t : j = 0
        · subst t
          rw [if_pos ⟨rfl, Or.inl rfl⟩]
          show mx_s _ (17 + 4 * x) _ (17 + 4 * x) = _
          rw [mx_s_s]
          exact congrArg (· + 1) ev
        · rw [mx_s_o (by omega), ev, if_neg (by omega), Nat.add_zero]
    · rw [mx_s_o (by omega), mx_s_o (by omega), ev, if_neg (by omega), Nat.add_zero]
  have hK : ∀ j, j < 4 → mx_pass u wi we mo (8 + j) = u (8 + j) + (if j = 0 ∨ j = c then 1 else 0) := fun j hj => by
    rw [hY1 _ (by omega) (by omega)]
    by_cases r : j = c
    · subst r
      rw [mx_cn_s, mx_cn_i (by omega), hvi _ (by omega), if_pos (Or.inr rfl)]
    · rw [mx_cn_i (by omega)]
      by_cases t : j = 0
      · subst t; rw [mx_cn_s, hvi _ (by omega), if_pos (Or.inl rfl)]
      · rw [mx_cn_i (by omega), hvi _ (by omega), if_neg (by omega), Nat.add_zero]
  refine ⟨fun a b ha hb => ?_, ?_, ?_, fun k hk => ?_, ?_, ?_⟩
  · obtain ⟨m1, m2⟩ := hM a b ha hb
    obtain ⟨m3, m4⟩ := hM b a hb ha
    obtain ⟨g1, g2⟩ := a1 a b ha hb
    rw [e265 _ (by omega), e265 _ (by omega), e265 _ (by omega), e265 _ (by omega), m1, m2, m3, m4, decide_eq_true (show 24 * a + b < 576 by omega), decide_eq_true (show 24 * b + a < 576 by omega), g1]
    cases mx_f u wi mo a <;> cases mx_f u wi mo b <;> cases decide (mx_p u a 4 = we) <;> cases decide (mx_p u b 4 = we) <;> simp <;> omega
  · rw [mx_pass_o hu (by omega), e25 12 (by omega), ← hA.1]
    exact iv_sum (fun j hj => e25 _ (by omega))
  · rw [mx_pass_o hu (by omega), e25 13 (by omega), ← hA.2]
    exact iv_sum (fun j hj => e25 _ (by omega))
  · have s0 := hS k hk 0 (by omega)
    have s1 := hS k hk 1 (by omega)
    have := a4 k hk
    have h8 := hK k hk
    simp only [Nat.mul_zero, Nat.add_zero, Nat.mul_one, show 17 + 4 = 21 by rfl] at s0 s1
    rw [s0, s1, h8]
    rcases hy2 with rfl | rfl
    · rw [if_neg (show ¬ (1 = 0 ∧ _) by omega)]
      by_cases q : k = 0 ∨ k = c
      · rw [if_pos ⟨rfl, q⟩, if_pos q]; omega
      · rw [if_neg (fun z => q z.2), if_neg q]; omega
    · rw [if_neg (show ¬ (0 = 1 ∧ _) by omega)]
      by_cases q : k = 0 ∨ k = c
      · rw [if_pos ⟨rfl, q⟩, if_pos q]; omega
      · rw [if_neg (fun z => q z.2), if_neg q]; omega
  · rw [mx_pass_d hu, show mx_pass u wi we mo 8 = _ from hK 0 (by omega), if_pos (Or.inl rfl)]
    show u 8 + 1 = _; omega
  · have k0 := hK 0 (by omega)
    have k1 := hK 1 (by omega)
    have k2 := hK 2 (by omega)
    have k3 := hK 3 (by omega)
    simp only [Nat.add_zero, show 8 + 1 = 9 by rfl, show 8 + 2 = 10 by rfl, show 8 + 3 = 11 by rfl] at k0 k1 k2 k3
    rw [k0, k1, k2, k3]
    rcases hc with rfl | rfl | rfl <;> simp <;> omega
theorem iv_adds_7 {u : Nat → Nat} {a b c d e f j : Nat} (hj : 7 ≤ j) (hj2 : j < 10) : mx_p (mx_adds u a b c d e f) (u 0) j = 0 := by
  have w : ∀ (v : Nat → Nat) (j' x : Nat), j ≠ j' → mx_pp v (u 0) j' x (25 + 10 * u 0 + j) = v (25 + 10 * u 0 + j) := fun v j' x h => mx_s_o (by omega)
  have z : ∀ n, j < n → mx_ad0 u n (25 + 10 * u 0 + j) = 0 := by
    intro n
    induction n with
    | zero => intro h; omega
    | succ n ih =>
      intro h
      unfold mx_ad0
      by_cases q : j = n
      · subst q; exact mx_s_s
      · rw [w _ n 0 q]; exact ih (by omega)
  show mx_adds u a b c d e f (25 + 10 * u 0 + j) = 0
  unfold mx_adds
  rw [mx_s_o (by omega), w _ 6 _ (by omega), w _ 5 _ (by omega), w _ 4 _ (by omega), w _ 3 _ (by omega), w _ 2 _ (by omega), w _ 1 _ (by omega), w _ 0 _ (by omega)]
  exact z 10 hj2
theorem mx_ag2_adds {u : Nat → Nat} {a b c d e f : Nat} (hn : u 0 < 24) (h : mx_ag2 u) : mx_ag2 (mx_adds u a b c d e f) := by
  obtain ⟨a1, a2, a3, a4, a5, a6⟩ := h
  have o : ∀ i, (0 < i ∧ i < 25 + 10 * u 0 ∨ 25 + 10 * u 0 + 10 ≤ i) → mx_adds u a b c d e f i = u i := fun i h => mx_adds_o h
  refine ⟨fun a' b' ha hb => ?_, ?_, ?_, fun k hk => ?_, ?_, ?_⟩
  · rw [o _ (by omega), o _ (by omega), o _ (by omega), o _ (by omega)]; exact a1 a' b' ha hb
  · rw [mx_adds_0, mx_sum_t rfl, iv_adds_7 (by omega) (by omega), o 12 (by omega), ← a2]
    exact iv_sum (fun k hk => o _ (by omega))
  · rw [mx_adds_0, mx_sum_t rfl, iv_adds_7 (by omega) (by omega), o 13 (by omega), ← a3]
    exact iv_sum (fun k hk => o _ (by omega))
  · rw [o _ (by omega), o _ (by omega), o _ (by omega)]; exact a4 k hk
  · rw [o 8 (by omega), o 2 (by omega)]; exact a5
  · rw [o 8 (by omega), o 9 (by omega), o 10 (by omega), o 11 (by omega)]; exact a6
theorem mx_ag2_b0 {u : Nat → Nat} : mx_ag2 (mx_b0 u) := by
  have z : ∀ i, (i < 5 ∨ 7 < i ∧ i < 1417) → mx_b0 u i = 0 := fun i hi => by unfold mx_b0; rw [if_neg (by omega), if_neg (by omega), if_pos (by omega)]
  refine ⟨fun a b ha hb => ?_, ?_, ?_, fun k hk => ?_, ?_, ?_⟩
  · rw [z _ (by omega), z _ (by omega), z _ (by omega), z _ (by omega)]; exact ⟨rfl, Nat.le_refl _⟩
  · rw [z 0 (by omega), z 12 (by omega)]; rfl
  · rw [z 0 (by omega), z 13 (by omega)]; rfl
  · rw [z _ (by omega), z _ (by omega), z _ (by omega)]
  · rw [z _ (by omega), z _ (by omega)]
  · rw [z 8 (by omega), z 9 (by omega), z 10 (by omega), z 11 (by omega)]
theorem mx_ag2_s {u : Nat → Nat} {k x : Nat} (hk : (2 < k ∧ k < 8) ∨ k = 14 ∨ k = 15 ∨ k = 16 ∨ (25 ≤ k ∧ k < 265 ∧ (k - 25) % 10 ≠ 7 ∧ (k - 25) % 10 ≠ 8)) (hu : u 0 ≤ 24) (h : mx_ag2 u) : mx_ag2 (mx_s u k x) :=
  mx_ag2_e (mx_s_o (by omega)) (fun i hi => mx_s_o (by omega)) (fun q hq => ⟨mx_s_o (by omega), mx_s_o (by omega)⟩) h
/-- a rose's row that is in order: accounts at most B, at most 720 days, all agrees -/
def mx_iv (B : Nat) (u : Nat → Nat) : Prop := mx_ok u ∧ mx_le B u ∧ u 2 ≤ 720 ∧ mx_ag2 u
theorem mx_iv_m {B C : Nat} {u : Nat → Nat} (h : mx_iv B u) (hb : B ≤ C) : mx_iv C u := ⟨h.1, mx_le_m h.2.1 hb, h.2.2⟩
theorem mx_iv_day {B : Nat} {u : Nat → Nat} {a b : Nat} (h : mx_iv B u) (hd : u 2 < 720) : mx_iv (B + 100) (mx_day u a b) := by
  obtain ⟨h1, h2, h3, h4⟩ := h
  exact ⟨mx_pass_ok h1, mx_pass_le h1.1 h2, by unfold mx_day; rw [mx_pass_d h1.1]; omega, mx_pass_ag h1.1 hd h4⟩
theorem mx_le_cn {B k x : Nat} {u : Nat → Nat} (h : mx_le B u) (hk : k < 10) : mx_le (B + x) (mx_cn u k x) := fun i hi => by
  unfold mx_cn mx_s; split
  · have := h (8 + k) (by omega); omega
  · have := h i hi; omega
theorem mx_le_adds {B : Nat} {u : Nat → Nat} {a b c d e f : Nat} (hn : u 0 < 24) (hB : 24 ≤ B) (h : mx_le B u) : mx_le B (mx_adds u a b c d e f) := fun i hi => by
  by_cases q : 0 < i ∧ i < 25 + 10 * u 0 ∨ 25 + 10 * u 0 + 10 ≤ i
  · rw [mx_adds_o q]; exact h i hi
  · by_cases c0 : i = 0
    · subst c0; rw [mx_adds_0]; omega
    · have : i = 25 + 10 * u 0 + 7 ∨ i = 25 + 10 * u 0 + 8 := by omega
      have z7 : mx_adds u a b c d e f (25 + 10 * u 0 + 7) = 0 := iv_adds_7 (by omega) (by omega)
      have z8 : mx_adds u a b c d e f (25 + 10 * u 0 + 8) = 0 := iv_adds_7 (by omega) (by omega)
      rcases this with rfl | rfl
      · rw [z7]; exact Nat.zero_le _
      · rw [z8]; exact Nat.zero_le _
theorem mx_ok_cn' {u : Nat → Nat} {k x : Nat} (hk : k < 17) (h : mx_ok u) : mx_ok (mx_cn u k x) := mx_ok_e ⟨mx_s_o (by omega), mx_s_o (by omega), mx_s_o (by omega), mx_s_o (by omega), fun i h1 h2 => mx_s_o (by omega)⟩ h
theorem mx_iv_new {B : Nat} {u : Nat → Nat} {a b c d e f : Nat} (h : mx_iv B u) (hB : 24 ≤ B) (hn : u 0 < 24) (ha : a < 16) (hb : b < 16) (hc : c < 12) (hd : d < 12) (he : e < 5) (hf : 1 ≤ f) (hf2 : f ≤ 999) : mx_iv (B + 1) (mx_new u a b c d e f) := by
  obtain ⟨h1, h2, h3, h4⟩ := h
  have e0 : mx_cn u 6 1 0 = u 0 := mx_s_o (by omega)
  have e2 : mx_cn u 6 1 2 = u 2 := mx_s_o (by omega)
  unfold mx_new
  exact ⟨mx_ok_adds (mx_ok_cn' (by omega) h1) (by omega) ha hb hc hd he hf hf2, mx_le_adds (by omega) (by omega) (mx_le_cn h2 (by omega)), by rw [mx_adds_o (by omega), e2]; exact h3, mx_ag2_adds (by omega) (mx_ag2_s (by omega) h1.1 h4)⟩
theorem mx_iv_fg {B k : Nat} {u : Nat → Nat} (h : mx_iv B u) (hk : k < 24) : mx_iv (B + 1) (mx_fg u k) := by
  obtain ⟨h1, h2, h3, h4⟩ := h
  unfold mx_fg
  refine ⟨mx_ok_cn' (by omega) (mx_ok_p9 h1), mx_le_cn (fun i hi => ?_) (by omega), ?_, mx_ag2_s (by omega) ?_ (mx_ag2_s (by omega) h1.1 h4)⟩
  · rw [show mx_pp u k 9 1 i = u i from mx_s_o (by omega)]; exact h2 i hi
  · rw [mx_cn_i (by omega), mx_pp_i (by omega)]; exact h3
  · rw [mx_pp_i (by omega)]; exact h1.1
theorem mx_iv_wg {B k x : Nat} {u : Nat → Nat} (h : mx_iv B u) (hk : k < 24) (hx : 1 ≤ x) (hx2 : x ≤ 999) : mx_iv B (mx_pp u k 6 x) := by
  obtain ⟨h1, h2, h3, h4⟩ := h
  refine ⟨?_, fun i hi => ?_, ?_, mx_ag2_s (by omega) h1.1 h4⟩
  · obtain ⟨k0, g, k5, k6, k7⟩ := h1
    refine ⟨by rw [mx_pp_i (by omega)]; exact k0, fun q hq => ?_, by rw [mx_pp_i (by omega)]; exact k5, by rw [mx_pp_i (by omega)]; exact k6, by rw [mx_pp_i (by omega)]; exact k7⟩
    rw [mx_pp_i (by omega)] at hq
    have e : ∀ j, j < 10 → j ≠ 6 → mx_p (mx_pp u k 6 x) q j = mx_p u q j := fun j hj h6 => mx_pp_o (by omega)
    have g6 : 1 ≤ mx_p (mx_pp u k 6 x) q 6 ∧ mx_p (mx_pp u k 6 x) q 6 ≤ 999 := by
      by_cases c : q = k
      · subst c; rw [mx_pp_s]; exact ⟨hx, hx2⟩
      · rw [mx_pp_o (by omega)]; exact ⟨(g q hq).2.2.2.2.2.2.2.1, (g q hq).2.2.2.2.2.2.2.2.1⟩
    rw [e 0 (by omega) (by omega), e 1 (by omega) (by omega), e 2 (by omega) (by omega), e 3 (by omega) (by omega), e 4 (by omega) (by omega), e 5 (by omega) (by omega), e 9 (by omega) (by omega)]
    have := g q hq
    exact ⟨this.1, this.2.1, this.2.2.1, this.2.2.2.1, this.2.2.2.2.1, this.2.2.2.2.2.1, this.2.2.2.2.2.2.1, g6.1, g6.2, this.2.2.2.2.2.2.2.2.2⟩
  · rw [show mx_pp u k 6 x i = u i from mx_s_o (by omega)]; exact h2 i hi
  · rw [mx_pp_i (by omega)]; exact h3
theorem mx_iv_set {B k x : Nat} {u : Nat → Nat} (h : mx_iv B u) (hB : 50 ≤ B) (hk : 5 ≤ k ∧ k ≤ 7) (hx : x ≤ mx_mst k) : mx_iv B (mx_s u k x) := by
  obtain ⟨h1, h2, h3, h4⟩ := h
  have hb : mx_mst k ≤ 50 := by unfold mx_mst; split <;> omega
  exact ⟨mx_ok_set h1 hk hx, mx_le_s h2 (by omega), by rw [mx_s_o (by omega)]; exact h3, mx_ag2_s (by omega) h1.1 h4⟩
theorem mx_iv_dd {B t : Nat} {u : Nat → Nat} {l : List Nat} (h : mx_iv B u) (hB : 50 ≤ B) (hi : dd_in t l) (hk : dd_ok u t l = true) : mx_iv (B + 100) (dd_row u t l) := by
  rcases hi with ⟨rfl, a, b, rfl, h1, h2⟩ | ⟨rfl, a, b, c, d, e, f, rfl, h1, h2, h3, h4, h5, h6, h7⟩ | ⟨rfl, a, rfl, h1⟩ | ⟨rfl, a, b, rfl, h1, h2, h3⟩ | ⟨rfl, a, k, rfl, h1, h2, h3⟩
  · simp only [dd_ok, if_true, decide_eq_true_eq] at hk
    exact mx_iv_day h hk
  · simp only [dd_ok, show ¬ (2 : Nat) = 1 by decide, if_true, if_false, Bool.and_eq_true, decide_eq_true_eq] at hk
    exact mx_iv_m (mx_iv_new h (by omega) hk.1 h1 h2 h3 h4 h5 h6 h7) (by omega)
  · exact mx_iv_m (mx_iv_fg h h1) (by omega)
  · exact mx_iv_m (mx_iv_wg h h1 h2 h3) (Nat.le_add_right _ _)
  · exact mx_iv_m (mx_iv_set h hB ⟨h1, h2⟩ h3) (by omega)
