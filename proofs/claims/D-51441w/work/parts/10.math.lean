/-! THE PURE SIDE: a rose as a row of naturals, laid out as the reference's own row: 0 proverbs, 2 day, 5 6 7 settings, 8..16 accounts, 17..24 years, 25 + 10 k + j proverb k, 265 + 24 a + b met, 841 + 24 a + b beaten -/
set_option maxRecDepth 100000
abbrev mx_w (u : Nat → Nat) : Nat → Int32 := fun i => nI (u i)
def mx_s (u : Nat → Nat) (j v : Nat) : Nat → Nat := fun i => if i = j then v else u i
theorem mx_s_s {u : Nat → Nat} {j v : Nat} : mx_s u j v j = v := by simp [mx_s]
theorem mx_s_o {u : Nat → Nat} {i j v : Nat} (h : i ≠ j) : mx_s u j v i = u i := by simp [mx_s, h]
theorem mx_upd (u : Nat → Nat) (j v : Nat) : upd (mx_w u) j (nI v) = mx_w (mx_s u j v) := by
  funext i
  by_cases h : i = j
  · subst h; simp [upd, mx_s, mx_w]
  · simp [upd, mx_s, mx_w, h]
abbrev mx_p (u : Nat → Nat) (k j : Nat) : Nat := u (25 + 10 * k + j)
def mx_live (u : Nat → Nat) (k : Nat) : Bool := Nat.beq (u (25 + 10 * k + 9)) 0
/-- steps from a to x in a ring of r -/
def mx_st (r a x : Nat) : Nat := (x + r - a) % r
def mx_btw (r x a z : Nat) : Bool := Nat.ble (mx_st r a x) (mx_st r a z)
def mx_hp (u : Nat → Nat) (k pt : Nat) : Bool := mx_btw 16 pt (mx_p u k 0) (mx_p u k 1)
def mx_hm (u : Nat → Nat) (k mo : Nat) : Bool := mx_btw 12 mo (mx_p u k 2) (mx_p u k 3)
def mx_sp (u : Nat → Nat) (k pt mo : Nat) : Bool := mx_live u k && (mx_hp u k pt && mx_hm u k mo)
/-- sums, greatest, many over the first ones -/
def mx_sum (f : Nat → Bool) (v : Nat → Nat) : Nat → Nat
  | 0 => 0
  | n + 1 => bif f n then mx_sum f v n + v n else mx_sum f v n
def mx_max (f : Nat → Bool) (v : Nat → Nat) : Nat → Nat
  | 0 => 0
  | n + 1 => bif f n then Nat.max (mx_max f v n) (v n) else mx_max f v n
def mx_cnt (f : Nat → Bool) : Nat → Nat
  | 0 => 0
  | n + 1 => mx_cnt f n + (f n).toNat
/-- those that say the weather w at pt in mo -/
def mx_say (u : Nat → Nat) (pt mo w k : Nat) : Bool := mx_sp u k pt mo && decide (mx_p u k 4 = w)
def mx_rule (r a b c : Nat) : Nat := if r = 0 then a else if r = 1 then b else 1000 * c + b
def mx_vo (u : Nat → Nat) (pt mo w : Nat) : Nat := mx_rule (u 5) (mx_sum (mx_say u pt mo w) (fun k => mx_p u k 6) (u 0)) (mx_max (mx_say u pt mo w) (fun k => mx_p u k 6) (u 0)) (mx_cnt (mx_say u pt mo w) (u 0))
/-- the first of the greatest, and its value -/
def mx_best (g : Nat → Nat) : Nat → Option Nat
  | 0 => none
  | k + 1 => match mx_best g k with
    | none => if 0 < g k then some k else none
    | some b => if g b < g k then some k else some b
def mx_bv (g : Nat → Nat) : Option Nat → Nat
  | none => 0
  | some b => g b
def mx_o : Option Nat → Int32
  | none => -1
  | some b => nI b
def mx_told (u : Nat → Nat) (pt mo : Nat) : Option Nat := mx_best (mx_vo u pt mo) 5
/-- what always holds of a row that is a rose -/
def mx_ok (u : Nat → Nat) : Prop :=
  u 0 ≤ 24 ∧ (∀ k, k < u 0 → mx_p u k 0 < 16 ∧ mx_p u k 1 < 16 ∧ mx_p u k 2 < 12 ∧ mx_p u k 3 < 12 ∧ mx_p u k 4 < 5 ∧ 1 ≤ mx_p u k 5 ∧ mx_p u k 5 ≤ 999 ∧ 1 ≤ mx_p u k 6 ∧ mx_p u k 6 ≤ 999 ∧ mx_p u k 9 ≤ 1) ∧ u 5 ≤ 2 ∧ u 6 ≤ 50 ∧ u 7 ≤ 50
theorem mx_sum_le {f : Nat → Bool} {v : Nat → Nat} {B : Nat} : ∀ {n : Nat}, (∀ k, k < n → v k ≤ B) → mx_sum f v n ≤ n * B
  | 0, _ => by simp [mx_sum]
  | n + 1, h => by
    have h1 := mx_sum_le (f := f) (n := n) (fun k hk => h k (by omega))
    have h2 := h n (by omega)
    rw [Nat.add_mul]
    unfold mx_sum
    cases f n <;> simp only [cond_true, cond_false] <;> omega
theorem mx_max_le {f : Nat → Bool} {v : Nat → Nat} {B : Nat} : ∀ {n : Nat}, (∀ k, k < n → v k ≤ B) → mx_max f v n ≤ B
  | 0, _ => by simp [mx_max]
  | n + 1, h => by
    have h1 := mx_max_le (f := f) (n := n) (fun k hk => h k (by omega))
    have h2 := h n (by omega)
    unfold mx_max
    cases f n
    · exact h1
    · exact Nat.max_le.mpr ⟨h1, h2⟩
theorem mx_cnt_le {f : Nat → Bool} : ∀ {n : Nat}, mx_cnt f n ≤ n
  | 0 => Nat.le_refl _
  | n + 1 => by
    have h1 := mx_cnt_le (f := f) (n := n)
    unfold mx_cnt
    have : (f n).toNat ≤ 1 := Bool.toNat_le _
    omega
theorem mx_vo_le {u : Nat → Nat} {pt mo w : Nat} (h : mx_ok u) : mx_vo u pt mo w ≤ 30000 := by
  obtain ⟨h0, h1, -⟩ := h
  have a1 := mx_sum_le (f := mx_say u pt mo w) (v := fun k => mx_p u k 6) (B := 999) (n := u 0) (fun k hk => (h1 k hk).2.2.2.2.2.2.2.2.1)
  have a2 := mx_max_le (f := mx_say u pt mo w) (v := fun k => mx_p u k 6) (B := 999) (n := u 0) (fun k hk => (h1 k hk).2.2.2.2.2.2.2.2.1)
  have a3 := mx_cnt_le (f := mx_say u pt mo w) (n := u 0)
  have a4 : u 0 * 999 ≤ 24 * 999 := Nat.mul_le_mul_right _ h0
  unfold mx_vo mx_rule
  split
  · omega
  · split <;> omega
theorem mx_best_lt {g : Nat → Nat} : ∀ {n b : Nat}, mx_best g n = some b → b < n
  | 0, b, h => by simp [mx_best] at h
  | n + 1, b, h => by
    unfold mx_best at h
    cases hb : mx_best g n with
    | none =>
      rw [hb] at h
      by_cases q : 0 < g n
      · simp [q] at h; omega
      · simp [q] at h
    | some c =>
      rw [hb] at h
      have := mx_best_lt hb
      by_cases q : g c < g n
      · simp [q] at h; omega
      · simp [q] at h; omega
/-- the reference's object: its fields, its arrays' lengths -/
abbrev mo_L (ad : Nat → Nat) (z : Nat → Int32) : List Value := [.ref (ad 0), .ref (ad 1), .ref (ad 2), .ref (ad 3), .ref (ad 4), .ref (ad 5), .ref (ad 6), .int (z 7), .int (z 8), .int (z 9), .ref (ad 10), .int (z 11), .int (z 12), .int (z 13), .int (z 14), .int (z 15), .int (z 16), .int (z 17), .int (z 18), .int (z 19), .int (z 20), .ref (ad 21), .ref (ad 22), .ref (ad 23), .int (z 24), .ref (ad 25), .ref (ad 26), .int (z 27)]
def mo_z (z : Nat → Int32) (k : Nat) (x : Int32) : Nat → Int32 := fun i => if i = k then x else z i
theorem mo_z_s {z : Nat → Int32} {k : Nat} {x : Int32} : mo_z z k x k = x := by simp [mo_z]
theorem mo_z_o {z : Nat → Int32} {i k : Nat} {x : Int32} (h : i ≠ k) : mo_z z k x i = z i := by simp [mo_z, h]
def mx_any (f : Nat → Bool) : Nat → Bool
  | 0 => false
  | n + 1 => mx_any f n || f n
theorem mx_any_t {f : Nat → Bool} : ∀ {n k : Nat}, k < n → f k = true → mx_any f n = true
  | 0, k, h, _ => absurd h (Nat.not_lt_zero k)
  | n + 1, k, h, hf => by
    unfold mx_any
    by_cases e : k = n
    · subst e; simp [hf]
    · simp [mx_any_t (show k < n by omega) hf]
theorem mx_any_s {f : Nat → Bool} {n : Nat} (h : mx_any f n = false) (hf : f n = false) : mx_any f (n + 1) = false := by unfold mx_any; simp [h, hf]
theorem mx_any_iff {f : Nat → Bool} : ∀ {n : Nat}, mx_any f n = true ↔ ∃ k, k < n ∧ f k = true
  | 0 => by simp [mx_any]
  | n + 1 => by
    unfold mx_any
    rw [Bool.or_eq_true, mx_any_iff]
    constructor
    · rintro (⟨k, h, e⟩ | h)
      · exact ⟨k, by omega, e⟩
      · exact ⟨n, by omega, h⟩
    · rintro ⟨k, h, e⟩
      by_cases q : k = n
      · subst q; exact Or.inr e
      · exact Or.inl ⟨k, by omega, e⟩
def mx_like (u : Nat → Nat) (a0 a1 a2 a3 a4 k : Nat) : Bool := decide (mx_p u k 0 = a0 ∧ mx_p u k 1 = a1 ∧ mx_p u k 2 = a2 ∧ mx_p u k 3 = a3 ∧ mx_p u k 4 = a4) && mx_live u k
theorem mx_sum_0 {f : Nat → Bool} {v : Nat → Nat} : mx_sum f v 0 = 0 := rfl
theorem mx_sum_t {f : Nat → Bool} {v : Nat → Nat} {n : Nat} (h : f n = true) : mx_sum f v (n + 1) = mx_sum f v n + v n := by rw [mx_sum, h]; rfl
theorem mx_sum_f {f : Nat → Bool} {v : Nat → Nat} {n : Nat} (h : f n = false) : mx_sum f v (n + 1) = mx_sum f v n := by rw [mx_sum, h]; rfl
theorem mx_max_t {f : Nat → Bool} {v : Nat → Nat} {n : Nat} (h : f n = true) : mx_max f v (n + 1) = Nat.max (mx_max f v n) (v n) := by rw [mx_max, h]; rfl
theorem mx_max_f {f : Nat → Bool} {v : Nat → Nat} {n : Nat} (h : f n = false) : mx_max f v (n + 1) = mx_max f v n := by rw [mx_max, h]; rfl
theorem mx_cnt_t {f : Nat → Bool} {n : Nat} (h : f n = true) : mx_cnt f (n + 1) = mx_cnt f n + 1 := by rw [mx_cnt, h]; rfl
theorem mx_cnt_f {f : Nat → Bool} {n : Nat} (h : f n = false) : mx_cnt f (n + 1) = mx_cnt f n := by rw [mx_cnt, h]; rfl
theorem mx_best_gt {g : Nat → Nat} {i : Nat} (h : mx_bv g (mx_best g i) < g i) : mx_best g (i + 1) = some i := by
  rw [mx_best]
  cases hb : mx_best g i with
  | none => rw [hb] at h; simp only [mx_bv] at h; simp [h]
  | some b => rw [hb] at h; simp only [mx_bv] at h; simp [h]
theorem mx_best_le {g : Nat → Nat} {i : Nat} (h : g i ≤ mx_bv g (mx_best g i)) : mx_best g (i + 1) = mx_best g i := by
  rw [mx_best]
  cases hb : mx_best g i with
  | none => rw [hb] at h; simp only [mx_bv] at h; simp; omega
  | some b => rw [hb] at h; simp only [mx_bv] at h; simp; intro q; omega
theorem mx_bv_le {g : Nat → Nat} {B : Nat} (h : ∀ k, g k ≤ B) (o : Option Nat) : mx_bv g o ≤ B := by cases o; exact Nat.zero_le _; exact h _
theorem mx_mx (a b : Nat) : Nat.max a b = if a ≤ b then b else a := Nat.max_def ..
theorem mx_mn (a b : Nat) : Nat.min a b = if a ≤ b then a else b := Nat.min_def ..
theorem nI_m1 {b : Nat} (h : b < 2147483648) : ¬ nI b = -1 := fun q => by
  have := congrArg Int32.toInt q
  rw [nI_toInt (by omega)] at this
  have e : (-1 : Int32).toInt = -1 := by decide
  omega
def mx_cn (u : Nat → Nat) (a m : Nat) : Nat → Nat := mx_s u (8 + a) (u (8 + a) + m)
def mx_pp (u : Nat → Nat) (k j v : Nat) : Nat → Nat := mx_s u (25 + 10 * k + j) v
theorem mx_pp_s {u : Nat → Nat} {k j v : Nat} : mx_p (mx_pp u k j v) k j = v := mx_s_s
theorem mx_pp_o {u : Nat → Nat} {k j k' j' v : Nat} (h : 10 * k + j ≠ 10 * k' + j') : mx_p (mx_pp u k j v) k' j' = mx_p u k' j' := mx_s_o (by omega)
theorem mx_pp_i {u : Nat → Nat} {k j i v : Nat} (h : i < 25) : mx_pp u k j v i = u i := mx_s_o (by omega)
def mx_b0 (u : Nat → Nat) : Nat → Nat := fun i => if i = 7 then 20 else if i = 6 then 10 else if i < 1417 then 0 else u i
def mx_ad0 (u : Nat → Nat) : Nat → Nat → Nat
  | 0 => u
  | j + 1 => mx_pp (mx_ad0 u j) (u 0) j 0
def mx_adds (u : Nat → Nat) (a0 a1 a2 a3 a4 a5 : Nat) : Nat → Nat :=
  mx_s (mx_pp (mx_pp (mx_pp (mx_pp (mx_pp (mx_pp (mx_pp (mx_ad0 u 10) (u 0) 0 a0) (u 0) 1 a1) (u 0) 2 a2) (u 0) 3 a3) (u 0) 4 a4) (u 0) 5 a5) (u 0) 6 a5) 0 (u 0 + 1)
theorem mx_ad0_i {u : Nat → Nat} {i : Nat} (h : i < 25) : ∀ j, mx_ad0 u j i = u i
  | 0 => rfl
  | j + 1 => by rw [mx_ad0, mx_pp_i h]; exact mx_ad0_i h j
def mx_rise (u : Nat → Nat) (k : Nat) : Nat → Nat := mx_cn (mx_pp (mx_pp u k 7 (mx_p u k 7 + 1)) k 6 (Nat.min 999 (mx_p u k 6 + mx_p u k 6 * u 6 / 100 + 1))) 4 1
def mx_fall (u : Nat → Nat) (k : Nat) : Nat → Nat := mx_cn (mx_pp (mx_pp u k 8 (mx_p u k 8 + 1)) k 6 (Nat.max 1 (mx_p u k 6 - mx_p u k 6 * u 7 / 100 - 1))) 5 1
theorem mx_fl {a f : Nat} (hf : f ≤ 50) (ha : 1 ≤ a) : a * f / 100 + 1 ≤ a := by
  have h1 : a * f ≤ a * 50 := Nat.mul_le_mul_left a hf
  omega
def mx_mt (u : Nat → Nat) (q r we : Nat) : Nat → Nat := mx_s (mx_s u (265 + 24 * q + r) (u (265 + 24 * q + r) + 1)) (841 + 24 * q + r) (u (841 + 24 * q + r) + (decide (mx_p u q 4 = we) && !decide (mx_p u r 4 = we)).toNat)
def mx_its (o : Option Nat) (we : Nat) : Nat := match o with
  | none => 3
  | some b => if b = we then 1 else 2
def mx_inc (u : Nat → Nat) (j : Nat) : Nat → Nat := mx_s u j (u j + 1)
def mx_year (u : Nat → Nat) (o : Option Nat) (we : Nat) : Nat → Nat :=
  if u 2 / 360 ≤ 1 then mx_inc (mx_inc (mx_cn (mx_cn u 0 1) (mx_its o we) 1) (17 + 4 * (u 2 / 360))) (17 + 4 * (u 2 / 360) + mx_its o we) else mx_cn (mx_cn u 0 1) (mx_its o we) 1
theorem kx_upw {G : kx_G} {σ : kx_H} {t : kx_T} {a n : Nat} {f g : Nat → Nat} (h : ∀ j, f j = g j) : kx_up σ t (a, kx_ai G n (mx_w f)) = kx_up σ t (a, kx_ai G n (mx_w g)) := by rw [show f = g from funext h]
theorem mo_set7 {ad : Nat → Nat} {z : Nat → Int32} {x : Int32} : (mo_L ad z).set 7 (.int x) = mo_L ad (mo_z z 7 x) := rfl
theorem mo_set8 {ad : Nat → Nat} {z : Nat → Int32} {x : Int32} : (mo_L ad z).set 8 (.int x) = mo_L ad (mo_z z 8 x) := rfl
theorem mo_set9 {ad : Nat → Nat} {z : Nat → Int32} {x : Int32} : (mo_L ad z).set 9 (.int x) = mo_L ad (mo_z z 9 x) := rfl
theorem mo_set11 {ad : Nat → Nat} {z : Nat → Int32} {x : Int32} : (mo_L ad z).set 11 (.int x) = mo_L ad (mo_z z 11 x) := rfl
theorem mo_set12 {ad : Nat → Nat} {z : Nat → Int32} {x : Int32} : (mo_L ad z).set 12 (.int x) = mo_L ad (mo_z z 12 x) := rfl
theorem mo_set13 {ad : Nat → Nat} {z : Nat → Int32} {x : Int32} : (mo_L ad z).set 13 (.int x) = mo_L ad (mo_z z 13 x) := rfl
theorem mo_set14 {ad : Nat → Nat} {z : Nat → Int32} {x : Int32} : (mo_L ad z).set 14 (.int x) = mo_L ad (mo_z z 14 x) := rfl
theorem mo_set15 {ad : Nat → Nat} {z : Nat → Int32} {x : Int32} : (mo_L ad z).set 15 (.int x) = mo_L ad (mo_z z 15 x) := rfl
theorem mo_set16 {ad : Nat → Nat} {z : Nat → Int32} {x : Int32} : (mo_L ad z).set 16 (.int x) = mo_L ad (mo_z z 16 x) := rfl
theorem mo_set17 {ad : Nat → Nat} {z : Nat → Int32} {x : Int32} : (mo_L ad z).set 17 (.int x) = mo_L ad (mo_z z 17 x) := rfl
theorem mo_set18 {ad : Nat → Nat} {z : Nat → Int32} {x : Int32} : (mo_L ad z).set 18 (.int x) = mo_L ad (mo_z z 18 x) := rfl
theorem mo_set19 {ad : Nat → Nat} {z : Nat → Int32} {x : Int32} : (mo_L ad z).set 19 (.int x) = mo_L ad (mo_z z 19 x) := rfl
theorem mo_set20 {ad : Nat → Nat} {z : Nat → Int32} {x : Int32} : (mo_L ad z).set 20 (.int x) = mo_L ad (mo_z z 20 x) := rfl
theorem mo_set24 {ad : Nat → Nat} {z : Nat → Int32} {x : Int32} : (mo_L ad z).set 24 (.int x) = mo_L ad (mo_z z 24 x) := rfl
theorem mo_set27 {ad : Nat → Nat} {z : Nat → Int32} {x : Int32} : (mo_L ad z).set 27 (.int x) = mo_L ad (mo_z z 27 x) := rfl
theorem kx_cpy_0 {f g : Nat → Int32} {x y : Nat} : va_cpy f g x y 0 = g := by
  funext j
  unfold va_cpy
  rw [if_neg (by omega)]
theorem kx_cpy_s {f g : Nat → Int32} {x y i : Nat} : upd (va_cpy f g x y i) (y + i) (f (x + i)) = va_cpy f g x y (i + 1) := by
  funext j
  unfold upd va_cpy
  by_cases h : j = y + i
  · subst h; rw [if_pos rfl, if_pos (by omega)]; congr 1; omega
  · rw [if_neg h]
    by_cases h2 : y ≤ j ∧ j < y + i
    · rw [if_pos h2, if_pos (by omega)]
    · rw [if_neg h2, if_neg (by omega)]
