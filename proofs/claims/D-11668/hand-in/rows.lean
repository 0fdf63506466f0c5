section
/-! pure picture: places p < 128, their values, needs, rank -/
def zq_l (r : Nat) : Nat := (97 - r) % 97
/-- the value of place p -/
def zq_V (r t p : Nat) : Nat :=
  if p < 16 then (if p = 0 then 1 else 0)
  else if p < 32 then (if p = 17 then 1 else 0)
  else if p < 48 then (if p = 33 then zq_l r else 0)
  else if p < 64 then (if p = 48 then 1 else if p = 49 then zq_l r else 0)
  else if p < 80 then r ^ (p - 64) % 97
  else if p < 96 then (if p = 80 then 1 else 0)
  else if p < 112 then (if p = 96 then t else r ^ (p - 97) % 97)
  else (zq_l r * r) ^ (p - 112) % 97
theorem zq_llt (r : Nat) : zq_l r < 97 := Nat.mod_lt _ (by omega)
theorem zq_V0 {r t n : Nat} (h : n < 16) : zq_V r t n = if n = 0 then 1 else 0 := by
  unfold zq_V
  rw [if_pos h]
theorem zq_V1 {r t n : Nat} (h : n < 16) : zq_V r t (16 + n) = if n = 1 then 1 else 0 := by
  unfold zq_V
  rw [if_neg (by omega), if_pos (by omega)]
  by_cases e : n = 1
  · rw [if_pos e, if_pos (by omega)]
  · rw [if_neg e, if_neg (by omega)]
theorem zq_V2 {r t n : Nat} (h : n < 16) : zq_V r t (32 + n) = if n = 1 then zq_l r else 0 := by
  unfold zq_V
  rw [if_neg (by omega), if_neg (by omega), if_pos (by omega)]
  by_cases e : n = 1
  · rw [if_pos e, if_pos (by omega)]
  · rw [if_neg e, if_neg (by omega)]
theorem zq_V3 {r t n : Nat} (h : n < 16) : zq_V r t (48 + n) = if n = 0 then 1 else if n = 1 then zq_l r else 0 := by
  unfold zq_V
  rw [if_neg (by omega), if_neg (by omega), if_neg (by omega), if_pos (by omega)]
  by_cases e : n = 0
  · rw [if_pos e, if_pos (by omega)]
  · rw [if_neg e, if_neg (by omega)]
    by_cases e1 : n = 1
    · rw [if_pos e1, if_pos (by omega)]
    · rw [if_neg e1, if_neg (by omega)]
theorem zq_V4 {r t n : Nat} (h : n < 16) : zq_V r t (64 + n) = r ^ n % 97 := by
  unfold zq_V
  rw [if_neg (by omega), if_neg (by omega), if_neg (by omega), if_neg (by omega), if_pos (by omega), show 64 + n - 64 = n by omega]
theorem zq_V5 {r t n : Nat} (h : n < 16) : zq_V r t (80 + n) = if n = 0 then 1 else 0 := by
  unfold zq_V
  rw [if_neg (by omega), if_neg (by omega), if_neg (by omega), if_neg (by omega), if_neg (by omega), if_pos (by omega)]
  by_cases e : n = 0
  · rw [if_pos e, if_pos (by omega)]
  · rw [if_neg e, if_neg (by omega)]
theorem zq_V6 {r t n : Nat} (h : n < 16) : zq_V r t (96 + n) = if n = 0 then t else r ^ (n - 1) % 97 := by
  unfold zq_V
  rw [if_neg (by omega), if_neg (by omega), if_neg (by omega), if_neg (by omega), if_neg (by omega), if_neg (by omega), if_pos (by omega)]
  by_cases e : n = 0
  · rw [if_pos e, if_pos (by omega)]
  · rw [if_neg e, if_neg (by omega), show 96 + n - 97 = n - 1 by omega]
theorem zq_V7 {r t n : Nat} : zq_V r t (112 + n) = (zq_l r * r) ^ n % 97 := by
  unfold zq_V
  rw [if_neg (by omega), if_neg (by omega), if_neg (by omega), if_neg (by omega), if_neg (by omega), if_neg (by omega), if_neg (by omega), show 112 + n - 112 = n by omega]
theorem zq_cases {P : Nat → Prop} (h0 : ∀ n, n < 16 → P n) (h1 : ∀ n, n < 16 → P (16 + n)) (h2 : ∀ n, n < 16 → P (32 + n)) (h3 : ∀ n, n < 16 → P (48 + n)) (h4 : ∀ n, n < 16 → P (64 + n)) (h5 : ∀ n, n < 16 → P (80 + n)) (h6 : ∀ n, n < 16 → P (96 + n)) (h7 : ∀ n, n < 16 → P (112 + n)) : ∀ p, p < 128 → P p := by
  intro p hp
  by_cases e0 : p < 16
  · exact h0 p e0
  by_cases e1 : p < 32
  · have h := h1 (p - 16) (by omega)
    rwa [show 16 + (p - 16) = p by omega] at h
  by_cases e2 : p < 48
  · have h := h2 (p - 32) (by omega)
    rwa [show 32 + (p - 32) = p by omega] at h
  by_cases e3 : p < 64
  · have h := h3 (p - 48) (by omega)
    rwa [show 48 + (p - 48) = p by omega] at h
  by_cases e4 : p < 80
  · have h := h4 (p - 64) (by omega)
    rwa [show 64 + (p - 64) = p by omega] at h
  by_cases e5 : p < 96
  · have h := h5 (p - 80) (by omega)
    rwa [show 80 + (p - 80) = p by omega] at h
  by_cases e6 : p < 112
  · have h := h6 (p - 96) (by omega)
    rwa [show 96 + (p - 96) = p by omega] at h
  · have h := h7 (p - 112) (by omega)
    rwa [show 112 + (p - 112) = p by omega] at h
theorem zq_Vlt {r t : Nat} (ht : t < 97) : ∀ p, p < 128 → zq_V r t p < 97 := by
  refine zq_cases (fun n h => ?_) (fun n h => ?_) (fun n h => ?_) (fun n h => ?_) (fun n h => ?_) (fun n h => ?_) (fun n h => ?_) (fun n h => ?_)
  · rw [zq_V0 h]
    split <;> omega
  · rw [zq_V1 h]
    split <;> omega
  · rw [zq_V2 h]
    have := zq_llt r
    split <;> omega
  · rw [zq_V3 h]
    have := zq_llt r
    split
    · omega
    · split <;> omega
  · rw [zq_V4 h]
    exact Nat.mod_lt _ (by omega)
  · rw [zq_V5 h]
    split <;> omega
  · rw [zq_V6 h]
    split
    · exact ht
    · exact Nat.mod_lt _ (by omega)
  · rw [zq_V7]
    exact Nat.mod_lt _ (by omega)
/-- how many places a place needs -/
def zq_cnt (p : Nat) : Nat :=
  if p < 32 then 0 else if p < 48 then 1 else if p < 64 then 2 else if p < 80 then 2 * (p - 64) + 1
  else if p < 96 then 2 * (p - 80) + 2 else if p < 112 then (if p = 96 then 0 else 1) else 2 * (p - 112) + 2
theorem zq_cnt0 {n : Nat} (h : n < 16) : zq_cnt n = 0 := by
  unfold zq_cnt
  rw [if_pos (by omega)]
theorem zq_cnt1 {n : Nat} (h : n < 16) : zq_cnt (16 + n) = 0 := by
  unfold zq_cnt
  rw [if_pos (by omega)]
theorem zq_cnt2 {n : Nat} (h : n < 16) : zq_cnt (32 + n) = 1 := by
  unfold zq_cnt
  rw [if_neg (by omega), if_pos (by omega)]
theorem zq_cnt3 {n : Nat} (h : n < 16) : zq_cnt (48 + n) = 2 := by
  unfold zq_cnt
  rw [if_neg (by omega), if_neg (by omega), if_pos (by omega)]
theorem zq_cnt4 {n : Nat} (h : n < 16) : zq_cnt (64 + n) = 2 * n + 1 := by
  unfold zq_cnt
  rw [if_neg (by omega), if_neg (by omega), if_neg (by omega), if_pos (by omega)]
  omega
theorem zq_cnt5 {n : Nat} (h : n < 16) : zq_cnt (80 + n) = 2 * n + 2 := by
  unfold zq_cnt
  rw [if_neg (by omega), if_neg (by omega), if_neg (by omega), if_neg (by omega), if_pos (by omega)]
  omega
theorem zq_cnt6 {n : Nat} (h : n < 16) : zq_cnt (96 + n) = if n = 0 then 0 else 1 := by
  unfold zq_cnt
  rw [if_neg (by omega), if_neg (by omega), if_neg (by omega), if_neg (by omega), if_neg (by omega), if_pos (by omega)]
  by_cases e : n = 0
  · rw [if_pos e, if_pos (by omega)]
  · rw [if_neg e, if_neg (by omega)]
theorem zq_cnt7 {n : Nat} : zq_cnt (112 + n) = 2 * n + 2 := by
  unfold zq_cnt
  rw [if_neg (by omega), if_neg (by omega), if_neg (by omega), if_neg (by omega), if_neg (by omega), if_neg (by omega)]
  omega
/-- the i-th need of a place -/
def zq_nd (p i : Nat) : Nat :=
  if p < 48 then p - 16 else if p < 64 then (if i = 0 then p - 48 else p - 16)
  else if p < 80 then (if i ≤ p - 64 then 48 + i else 64 + (i - (p - 64) - 1))
  else if p < 96 then (if i ≤ p - 80 then 48 + i else 64 + (i - (p - 80) - 1))
  else if p < 112 then p - 33 else (if i ≤ p - 112 then 64 + i else 32 + (i - (p - 112) - 1))
theorem zq_nd2 {n i : Nat} (h : n < 16) : zq_nd (32 + n) i = 16 + n := by
  unfold zq_nd
  rw [if_pos (by omega)]
  omega
theorem zq_nd3 {n i : Nat} (h : n < 16) : zq_nd (48 + n) i = if i = 0 then n else 32 + n := by
  unfold zq_nd
  rw [if_neg (by omega), if_pos (by omega)]
  by_cases e : i = 0
  · rw [if_pos e, if_pos e]
    omega
  · rw [if_neg e, if_neg e]
    omega
theorem zq_nd4 {n i : Nat} (h : n < 16) : zq_nd (64 + n) i = if i ≤ n then 48 + i else 64 + (i - n - 1) := by
  unfold zq_nd
  rw [if_neg (by omega), if_neg (by omega), if_pos (by omega), show 64 + n - 64 = n by omega]
theorem zq_nd5 {n i : Nat} (h : n < 16) : zq_nd (80 + n) i = if i ≤ n then 48 + i else 64 + (i - n - 1) := by
  unfold zq_nd
  rw [if_neg (by omega), if_neg (by omega), if_neg (by omega), if_pos (by omega), show 80 + n - 80 = n by omega]
theorem zq_nd6 {n i : Nat} (h : n < 16) : zq_nd (96 + n) i = 63 + n := by
  unfold zq_nd
  rw [if_neg (by omega), if_neg (by omega), if_neg (by omega), if_neg (by omega), if_pos (by omega)]
  omega
theorem zq_nd7 {n i : Nat} : zq_nd (112 + n) i = if i ≤ n then 64 + i else 32 + (i - n - 1) := by
  unfold zq_nd
  rw [if_neg (by omega), if_neg (by omega), if_neg (by omega), if_neg (by omega), if_neg (by omega), show 112 + n - 112 = n by omega]
/-- needs have a lower rank -/
def zq_rk (p : Nat) : Nat :=
  if p < 32 then 0 else if p < 48 then 1 else if p < 64 then 2 else if p < 80 then 3 + (p - 64) else if p < 96 then 4 + (p - 80)
  else if p < 112 then 3 + (p - 96) else 4 + (p - 112)
theorem zq_rk0 {n : Nat} (h : n < 32) : zq_rk n = 0 := by
  unfold zq_rk
  rw [if_pos (by omega)]
theorem zq_rk2 {n : Nat} (h : n < 16) : zq_rk (32 + n) = 1 := by
  unfold zq_rk
  rw [if_neg (by omega), if_pos (by omega)]
theorem zq_rk3 {n : Nat} (h : n < 16) : zq_rk (48 + n) = 2 := by
  unfold zq_rk
  rw [if_neg (by omega), if_neg (by omega), if_pos (by omega)]
theorem zq_rk4 {n : Nat} (h : n < 16) : zq_rk (64 + n) = 3 + n := by
  unfold zq_rk
  rw [if_neg (by omega), if_neg (by omega), if_neg (by omega), if_pos (by omega)]
  omega
theorem zq_rk5 {n : Nat} (h : n < 16) : zq_rk (80 + n) = 4 + n := by
  unfold zq_rk
  rw [if_neg (by omega), if_neg (by omega), if_neg (by omega), if_neg (by omega), if_pos (by omega)]
  omega
theorem zq_rk6 {n : Nat} (h : n < 16) : zq_rk (96 + n) = 3 + n := by
  unfold zq_rk
  rw [if_neg (by omega), if_neg (by omega), if_neg (by omega), if_neg (by omega), if_neg (by omega), if_pos (by omega)]
  omega
theorem zq_rk7 {n : Nat} : zq_rk (112 + n) = 4 + n := by
  unfold zq_rk
  rw [if_neg (by omega), if_neg (by omega), if_neg (by omega), if_neg (by omega), if_neg (by omega), if_neg (by omega)]
  omega
theorem zq_rkle : ∀ p, p < 128 → zq_rk p ≤ 20 := by
  refine zq_cases (fun n h => ?_) (fun n h => ?_) (fun n h => ?_) (fun n h => ?_) (fun n h => ?_) (fun n h => ?_) (fun n h => ?_) (fun n h => ?_)
  · rw [zq_rk0 (by omega)]; omega
  · rw [zq_rk0 (by omega)]; omega
  · rw [zq_rk2 h]; omega
  · rw [zq_rk3 h]; omega
  · rw [zq_rk4 h]; omega
  · rw [zq_rk5 h]; omega
  · rw [zq_rk6 h]; omega
  · rw [zq_rk7]; omega
theorem zq_cntle : ∀ p, p < 128 → zq_cnt p ≤ 32 := by
  refine zq_cases (fun n h => ?_) (fun n h => ?_) (fun n h => ?_) (fun n h => ?_) (fun n h => ?_) (fun n h => ?_) (fun n h => ?_) (fun n h => ?_)
  · rw [zq_cnt0 h]; omega
  · rw [zq_cnt1 h]; omega
  · rw [zq_cnt2 h]; omega
  · rw [zq_cnt3 h]; omega
  · rw [zq_cnt4 h]; omega
  · rw [zq_cnt5 h]; omega
  · rw [zq_cnt6 h]; split <;> omega
  · rw [zq_cnt7]; omega
theorem zq_ndok {i : Nat} : ∀ p, p < 128 → i < zq_cnt p → zq_nd p i < 128 ∧ zq_rk (zq_nd p i) < zq_rk p := by
  refine zq_cases (fun n h => ?_) (fun n h => ?_) (fun n h => ?_) (fun n h => ?_) (fun n h => ?_) (fun n h => ?_) (fun n h => ?_) (fun n h => ?_)
  · rw [zq_cnt0 h]; intro hi; omega
  · rw [zq_cnt1 h]; intro hi; omega
  · rw [zq_cnt2 h, zq_nd2 h, zq_rk2 h, zq_rk0 (by omega)]; intro hi; omega
  · rw [zq_cnt3 h, zq_nd3 h, zq_rk3 h]
    intro hi
    by_cases e : i = 0
    · rw [if_pos e, zq_rk0 (by omega)]; omega
    · rw [if_neg e, zq_rk2 h]; omega
  · rw [zq_cnt4 h, zq_nd4 h, zq_rk4 h]
    intro hi
    by_cases e : i ≤ n
    · rw [if_pos e, zq_rk3 (by omega)]; omega
    · rw [if_neg e, zq_rk4 (by omega)]; omega
  · rw [zq_cnt5 h, zq_nd5 h, zq_rk5 h]
    intro hi
    by_cases e : i ≤ n
    · rw [if_pos e, zq_rk3 (by omega)]; omega
    · rw [if_neg e, zq_rk4 (by omega)]; omega
  · rw [zq_cnt6 h, zq_nd6 h, zq_rk6 h]
    intro hi
    have hn : 0 < n := by
      by_cases e : n = 0
      · rw [if_pos e] at hi; omega
      · omega
    rw [show 63 + n = 64 + (n - 1) by omega, zq_rk4 (by omega)]; omega
  · rw [zq_cnt7, zq_nd7, zq_rk7]
    intro hi
    by_cases e : i ≤ n
    · rw [if_pos e, zq_rk4 (by omega)]; omega
    · rw [if_neg e, zq_rk2 (by omega)]; omega
/-- what the places that are not asked yet may still cost -/
def zq_phi (a : Nat → Int32) : Nat → Nat
  | 0 => 0
  | k + 1 => zq_phi a k + if a k = 0 then 36 else 0
theorem zq_phi_le (a : Nat → Int32) (k : Nat) : zq_phi a k ≤ 36 * k := by
  induction k with
  | zero => exact Nat.le_refl _
  | succ k ih =>
    unfold zq_phi
    split <;> omega
theorem zq_phi_hi {a : Nat → Int32} {p : Nat} {x : Int32} : ∀ k, k ≤ p → zq_phi (upd a p x) k = zq_phi a k := by
  intro k
  induction k with
  | zero => intro _; rfl
  | succ k ih =>
    intro h
    unfold zq_phi
    rw [ih (by omega), pk_un (by omega)]
theorem zq_phi_in {a : Nat → Int32} {p : Nat} {x : Int32} (h0 : a p = 0) (hx : ¬ x = 0) : ∀ k, p < k → zq_phi (upd a p x) k + 36 = zq_phi a k := by
  intro k
  induction k with
  | zero => intro h; omega
  | succ k ih =>
    intro h
    unfold zq_phi
    by_cases e : p = k
    · subst e
      rw [zq_phi_hi p (Nat.le_refl p), pk_us, if_neg hx, if_pos h0]
    · rw [← ih (by omega), pk_un (by omega)]
      omega
theorem zq_phi_same {a : Nat → Int32} {p : Nat} {x : Int32} (h0 : ¬ a p = 0) (hx : ¬ x = 0) : ∀ k, zq_phi (upd a p x) k = zq_phi a k := by
  intro k
  induction k with
  | zero => rfl
  | succ k ih =>
    unfold zq_phi
    rw [ih]
    by_cases e : k = p
    · subst e
      rw [pk_us, if_neg hx, if_neg h0]
    · rw [pk_un e]
/-! arithmetic modulo 97 -/
theorem zq_m1 {r : Nat} (x : Nat) (hr : r < 97) : (97 - zq_l r * x % 97) % 97 = r * x % 97 := by
  unfold zq_l
  by_cases h : r = 0
  · subst h
    rw [show (97 - 0) % 97 = 0 by decide, Nat.zero_mul]
  · rw [Nat.mod_eq_of_lt (show 97 - r < 97 by omega)]
    have e : (97 - r) * x + r * x = 97 * x := by rw [← Nat.add_mul, Nat.sub_add_cancel (by omega)]
    generalize (97 - r) * x = z at e ⊢
    generalize r * x = y at e ⊢
    omega
theorem zq_m2 {r : Nat} (x : Nat) (hr : r < 97) : (r * x % 97 + zq_l r * x) % 97 = 0 := by
  unfold zq_l
  by_cases h : r = 0
  · subst h
    rw [show (97 - 0) % 97 = 0 by decide, Nat.zero_mul]
  · rw [Nat.mod_eq_of_lt (show 97 - r < 97 by omega)]
    have e : (97 - r) * x + r * x = 97 * x := by rw [← Nat.add_mul, Nat.sub_add_cancel (by omega)]
    generalize (97 - r) * x = z at e ⊢
    generalize r * x = y at e ⊢
    omega
theorem zq_pw {r n : Nat} (hn : 1 ≤ n) : r ^ n % 97 = r * (r ^ (n - 1) % 97) % 97 := by
  obtain ⟨m, rfl⟩ : ∃ m, n = m + 1 := ⟨n - 1, by omega⟩
  rw [show m + 1 - 1 = m by omega, Nat.pow_succ, Nat.mul_comm (r ^ m) r, Nat.mul_mod_mod]
theorem zq_ps (r n : Nat) : r ^ n % 97 * r % 97 = r ^ (n + 1) % 97 := by
  rw [Nat.pow_succ, Nat.mod_mul_mod]
theorem zq_pt (m n : Nat) : m ^ n % 97 * (m % 97) % 97 = m ^ (n + 1) % 97 := by
  rw [Nat.pow_succ, ← Nat.mul_mod]
/-- the running series of composed, after it has taken up coefficient j -/
def zq_SC (r n j i : Nat) : Nat := if j + i ≤ n then r ^ (j + i) % 97 * zq_l r ^ i % 97 else 0
theorem zq_SClt (r n j i : Nat) : zq_SC r n j i < 97 := by
  unfold zq_SC
  split
  · exact Nat.mod_lt _ (by omega)
  · omega
theorem zq_SCs {r n j i : Nat} (hi : 1 ≤ i) : zq_l r * zq_SC r n (j + 1) (i - 1) % 97 = zq_SC r n j i := by
  obtain ⟨m, rfl⟩ : ∃ m, i = m + 1 := ⟨i - 1, by omega⟩
  rw [show m + 1 - 1 = m by omega]
  unfold zq_SC
  rw [show j + 1 + m = j + (m + 1) by omega]
  by_cases h : j + (m + 1) ≤ n
  · rw [if_pos h, if_pos h, Nat.mul_mod_mod, Nat.pow_succ (n := zq_l r)]
    congr 1
    generalize r ^ (j + (m + 1)) % 97 = a
    generalize zq_l r ^ m = b
    rw [Nat.mul_comm (zq_l r), Nat.mul_assoc]
  · rw [if_neg h, if_neg h, Nat.mul_zero]
theorem zq_SC0 {r n j : Nat} (hj : j ≤ n) : (0 + r ^ j % 97) % 97 = zq_SC r n j 0 := by
  unfold zq_SC
  rw [if_pos (by omega), Nat.pow_zero, Nat.mul_one, Nat.zero_add, Nat.add_zero]
theorem zq_SCe {r n : Nat} : zq_SC r n 0 n = (zq_l r * r) ^ n % 97 := by
  unfold zq_SC
  rw [if_pos (by omega), Nat.zero_add, Nat.mod_mul_mod, Nat.mul_pow, Nat.mul_comm]
theorem zq_SCn {r n i : Nat} : zq_SC r n (n + 1) i = 0 := by
  unfold zq_SC
  rw [if_neg (by omega)]
end
section
/-! small walks: remainders, product, timesInner, composed -/
theorem zq_rem {x : Nat} (h : x < 2 ^ 31) : nI x - nI x / 97 * 97 = nI (x % 97) := pk_rem h (by decide) (by decide)
theorem zq_at {a : Nat → Int32} {s : Nat} {x : Int32} (hs : s < 2 ^ 31) (h : a s = x) : a (nI s).toNatClampNeg = x := by
  rw [nI_clamp hs]
  exact h
theorem zq_ne1 {q : Nat} (h : q < 2 ^ 31) : ¬ nI q = -1 := by
  intro e
  have e1 := congrArg Int32.toInt e
  rw [nI_toInt h] at e1
  have e2 : (-1 : Int32).toInt = -1 := by decide
  rw [e2] at e1
  omega
theorem zq_sh (s n : Nat) (hs : s < 8) (hn : n < 16) : nI (16 * s + n) >>> ((4 : Int32) &&& 31) = nI s := by
  rw [pk_shrN (show 16 * s + n < 2 ^ 31 by omega) _ 4 (by decide)]
  congr 1
  omega
theorem zq_an (s n : Nat) (hs : s < 8) (hn : n < 16) : nI (16 * s + n) &&& 15 = nI n := by
  rw [pk_andN (show 16 * s + n < 2 ^ 32 by omega) 4 (by decide)]
  congr 1
  omega
theorem zq_16 {a : Nat → Int32} {s k : Nat} (hs : s < 2 ^ 31) (h : a s = nI k) : 16 * a (nI s).toNatClampNeg = nI (16 * k) := by
  rw [nI_clamp hs, h]
  exact pk_mul 16 k
theorem zq_mlt {x y : Nat} (hx : x < 97) (hy : y < 97) : x * y < 10000 := Nat.lt_of_le_of_lt (Nat.mul_le_mul (Nat.le_of_lt_succ hx) (Nat.le_of_lt_succ hy)) (by decide)
theorem zq_product {post : Int32 → Prop} {a1 a2 a3 a4 a5 a6 a7 a8 a9 : Nat → Int32} {a b f n : Nat} (A u v : Nat → Nat) (ha : a + n < 128) (hb : b + n < 128) (hf : f ≤ n + 1) (h0 : A f = 0)
    (hu : ∀ i, f ≤ i → i ≤ n → a5 (a + i) = nI (u i) ∧ a5 (b + (n - i)) = nI (v i) ∧ u i < 97 ∧ v i < 97 ∧ A (i + 1) = (A i + u i * v i) % 97)
    (H : post (nI (A (n + 1)))) : wpX_product post (a1, a2, a3, a4, a5, a6, a7, a8, a9) (nI a) (nI b) (nI f) (nI n) := by
  refine pk_loop (fun k i s => wX_product_6 post (nI a) (nI b) (nI n) a1 a2 a3 a4 a5 a6 a7 a8 a9 k s (nI i)) (fun i s => f ≤ i ∧ s = nI (A i) ∧ A i < 97) (n + 1) f 0 hf ⟨Nat.le_refl _, by rw [h0]; rfl, by rw [h0]; decide⟩ ?_ ?_
  · intro k s h
    obtain ⟨_, rfl, _⟩ := h
    exact pk_lt n (n + 1) (fun _ => H) (fun z => absurd z (by omega))
  · intro k i s hi h hw
    obtain ⟨h1, rfl, h3⟩ := h
    obtain ⟨e1, e2, b1, b2, e3⟩ := hu i h1 (by omega)
    have b3 := zq_mlt b1 b2
    have c1 : nI a + nI i = nI (a + i) := nI_add a i
    have c2 : nI b + nI n - nI i = nI (b + (n - i)) := by
      rw [nI_add, pk_sub (by omega)]
      congr 1
      omega
    have e : (nI (A i) + a5 (nI a + nI i).toNatClampNeg * a5 (nI b + nI n - nI i).toNatClampNeg) - (nI (A i) + a5 (nI a + nI i).toNatClampNeg * a5 (nI b + nI n - nI i).toNatClampNeg) / 97 * 97 = nI (A (i + 1)) := by
      rw [c1, c2, nI_clamp (by omega), nI_clamp (by omega), e1, e2, pk_mul, nI_add, zq_rem (by omega), e3]
    exact pk_lt n i (fun z => absurd z (by omega)) (fun _ => ⟨pk_in (a + i) 128 (by omega) c1, pk_in (b + (n - i)) 128 (by omega) c2, by decide, nm_r e (nm_r (nI_1 i) (hw _ ⟨by omega, rfl, by rw [e3]; exact Nat.mod_lt _ (by decide)⟩))⟩)
theorem zq_times {post : Int32 → Prop} {a1 a2 a3 a4 a5 a6 a7 a8 a9 : Nat → Int32} {b n : Nat} (A u v : Nat → Nat) (hb : b + n < 128) (hn : n < 16) (h0 : A 1 = 0)
    (hu : ∀ i, 1 ≤ i → i ≤ n → a5 (b + i) = nI (u i) ∧ a8 (n - i) = nI (v i) ∧ u i < 97 ∧ v i < 97 ∧ A (i + 1) = (A i + u i * v i) % 97)
    (H : post (nI (A (n + 1)))) : wpX_timesInner post (a1, a2, a3, a4, a5, a6, a7, a8, a9) (nI b) (nI n) := by
  refine pk_loop (fun k i s => wX_timesInner_5 post (nI b) (nI n) a1 a2 a3 a4 a5 a6 a7 a8 a9 k s (nI i)) (fun i s => 1 ≤ i ∧ s = nI (A i) ∧ A i < 97) (n + 1) 1 0 (by omega) ⟨Nat.le_refl _, by rw [h0]; rfl, by rw [h0]; decide⟩ ?_ ?_
  · intro k s h
    obtain ⟨_, rfl, _⟩ := h
    exact pk_lt n (n + 1) (fun _ => H) (fun z => absurd z (by omega))
  · intro k i s hi h hw
    obtain ⟨h1, rfl, h3⟩ := h
    obtain ⟨e1, e2, b1, b2, e3⟩ := hu i h1 (by omega)
    have b3 := zq_mlt b1 b2
    have c1 : nI b + nI i = nI (b + i) := nI_add b i
    have c2 : nI n - nI i = nI (n - i) := pk_sub (by omega)
    have e : (nI (A i) + a5 (nI b + nI i).toNatClampNeg * a8 (nI n - nI i).toNatClampNeg) - (nI (A i) + a5 (nI b + nI i).toNatClampNeg * a8 (nI n - nI i).toNatClampNeg) / 97 * 97 = nI (A (i + 1)) := by
      rw [c1, c2, nI_clamp (by omega), nI_clamp (by omega), e1, e2, pk_mul, nI_add, zq_rem (by omega), e3]
    exact pk_lt n i (fun z => absurd z (by omega)) (fun _ => ⟨pk_in (b + i) 128 (by omega) c1, pk_in (n - i) 16 (by omega) c2, by decide, nm_r e (nm_r (nI_1 i) (hw _ ⟨by omega, rfl, by rw [e3]; exact Nat.mod_lt _ (by decide)⟩))⟩)
/-- the running series times the inner one -/
def zq_NW (r n j i : Nat) : Nat := if i = 0 then 0 else zq_l r * zq_SC r n (j + 1) (i - 1) % 97
theorem zq_c34 {post : Int32 → St2 → Prop} {J : Int32 → (Nat → Int32) → (Nat → Int32) → (Nat → Int32) → (Nat → Int32) → (Nat → Int32) → (Nat → Int32) → (Nat → Int32) → (Nat → Int32) → (Nat → Int32) → Prop} {a1 a2 a3 a4 a5 a6 a7 a8 a9 : Nat → Int32} {r n j : Nat} (hn : n < 16) (hj : j ≤ n)
    (h4 : ∀ k, k ≤ n → a5 (64 + k) = nI (r ^ k % 97)) (h2 : ∀ k, k ≤ n → a5 (32 + k) = nI (if k = 1 then zq_l r else 0))
    (h8 : ∀ i, i ≤ n → a8 i = nI (zq_SC r n (j + 1) i))
    (H : ∀ a8', (∀ i, i ≤ n → a8' i = nI (zq_SC r n j i)) → J (nI j + (-1)) a1 a2 a3 a4 a5 a6 a7 a8' a9) :
    ∃ fu, wX_composed_34 post J (nI 64) (nI 32) (nI n) (nI j) fu (nI n) a1 a2 a3 a4 a5 a6 a7 a8 a9 := by
  have main := pk_loopD (fun k m s => wX_composed_34 post J (nI 64) (nI 32) (nI n) (nI j) k (nI m + (-1)) a1 a2 a3 a4 a5 a6 a7 s a9)
    (fun m s => m ≤ n + 1 ∧ ∀ i, i ≤ n → s i = nI (if m ≤ i then zq_NW r n j i else zq_SC r n (j + 1) i)) ?_ ?_ (n + 1) a8 ⟨Nat.le_refl _, fun i hi => by rw [if_neg (by omega)]; exact h8 i hi⟩
  · have main' : wX_composed_34 post J (nI 64) (nI 32) (nI n) (nI j) (n + 1 + 1) (nI (n + 1) + (-1)) a1 a2 a3 a4 a5 a6 a7 a8 a9 := main
    rw [pk_m1] at main'
    exact ⟨_, main'⟩
  · intro k s h
    have c1 : nI 64 + nI j = nI (64 + j) := nI_add 64 j
    have e : (s 0 + a5 (nI 64 + nI j).toNatClampNeg) - (s 0 + a5 (nI 64 + nI j).toNatClampNeg) / 97 * 97 = nI (zq_SC r n j 0) := by
      have l1 : r ^ j % 97 < 97 := Nat.mod_lt _ (by decide)
      rw [c1, nI_clamp (by omega), h4 j hj, h.2 0 (by omega), if_pos (Nat.le_refl 0), zq_NW, if_pos rfl, nI_add, zq_rem (by omega), zq_SC0 hj]
    refine br_t (show nI 0 + (-1) < 0 by decide) ⟨pk_in (64 + j) 128 (by omega) c1, by decide, nm_e (nm_e (H _ (fun i hi => ?_)))⟩
    by_cases e0 : i = 0
    · subst e0
      rw [pk_us, e]
    · rw [pk_un e0, h.2 i hi, if_pos (by omega), zq_NW, if_neg e0, zq_SCs (by omega)]
  · intro k m s h hw
    show wX_composed_34 post J (nI 64) (nI 32) (nI n) (nI j) (k + 1) (nI (m + 1) + (-1)) a1 a2 a3 a4 a5 a6 a7 s a9
    rw [pk_m1]
    have hm := h.1
    refine br_f (nI_pos (by omega)) (zq_times (fun i => if i ≤ 1 then 0 else zq_l r * zq_SC r n (j + 1) (m - 1) % 97) (fun i => if i = 1 then zq_l r else 0) (fun i => zq_SC r n (j + 1) (m - i)) (by omega) (by omega) (by rfl) ?_ ?_)
    · intro i hi1 hi2
      have hl := zq_llt r
      refine ⟨h2 i (by omega), ?_, ?_, zq_SClt _ _ _ _, ?_⟩
      · rw [h.2 (m - i) (by omega), if_neg (by omega)]
      · show (if i = 1 then zq_l r else 0) < 97
        split <;> omega
      · show (if i + 1 ≤ 1 then 0 else zq_l r * zq_SC r n (j + 1) (m - 1) % 97) = ((if i ≤ 1 then 0 else zq_l r * zq_SC r n (j + 1) (m - 1) % 97) + (if i = 1 then zq_l r else 0) * zq_SC r n (j + 1) (m - i)) % 97
        rw [if_neg (by omega)]
        by_cases e1 : i = 1
        · subst e1
          rw [if_pos (by omega), if_pos rfl, Nat.zero_add]
        · rw [if_neg (by omega), if_neg e1, Nat.zero_mul]
          exact (Nat.mod_mod _ 97).symm
    · have e : (if m + 1 ≤ 1 then 0 else zq_l r * zq_SC r n (j + 1) (m - 1) % 97) = zq_NW r n j m := by
        unfold zq_NW
        by_cases e0 : m = 0
        · rw [if_pos (by omega), if_pos e0]
        · rw [if_neg (by omega), if_neg e0]
      refine ⟨pk_in m 16 (by omega), nm_e (nm_e (hw _ ⟨by omega, fun i hi => ?_⟩))⟩
      rw [nI_clamp (by omega)]
      by_cases e0 : i = m
      · subst e0
        rw [pk_us, if_pos (Nat.le_refl _)]
        exact congrArg nI e
      · rw [pk_un e0, h.2 i hi]
        by_cases e1 : m ≤ i
        · rw [if_pos e1, if_pos (by omega)]
        · rw [if_neg e1, if_neg (by omega)]
theorem zq_c26 {post : Int32 → St2 → Prop} {a1 a2 a3 a4 a5 a6 a7 a8 a9 : Nat → Int32} {r n : Nat} (hn : n < 16)
    (h4 : ∀ k, k ≤ n → a5 (64 + k) = nI (r ^ k % 97)) (h2 : ∀ k, k ≤ n → a5 (32 + k) = nI (if k = 1 then zq_l r else 0))
    (h8 : ∀ i, i ≤ n → a8 i = nI 0)
    (H : ∀ a8', post (nI ((zq_l r * r) ^ n % 97)) (a1, a2, a3, a4, a5, a6, a7, a8', a9)) :
    ∃ fu, wX_composed_26 post (nI 64) (nI 32) (nI n) fu (nI n) a1 a2 a3 a4 a5 a6 a7 a8 a9 := by
  have main := pk_loopD (fun k m s => wX_composed_26 post (nI 64) (nI 32) (nI n) k (nI m + (-1)) a1 a2 a3 a4 a5 a6 a7 s a9)
    (fun m s => m ≤ n + 1 ∧ ∀ i, i ≤ n → s i = nI (zq_SC r n m i)) ?_ ?_ (n + 1) a8 ⟨Nat.le_refl _, fun i hi => by rw [zq_SCn]; exact h8 i hi⟩
  · have main' : wX_composed_26 post (nI 64) (nI 32) (nI n) (n + 1 + 1) (nI (n + 1) + (-1)) a1 a2 a3 a4 a5 a6 a7 a8 a9 := main
    rw [pk_m1] at main'
    exact ⟨_, main'⟩
  · intro k s h
    refine br_t (show nI 0 + (-1) < 0 by decide) ⟨pk_in n 16 hn, ?_⟩
    rw [nI_clamp (by omega), h.2 n (Nat.le_refl n), zq_SCe]
    exact H s
  · intro k m s h hw
    show wX_composed_26 post (nI 64) (nI 32) (nI n) (k + 1) (nI (m + 1) + (-1)) a1 a2 a3 a4 a5 a6 a7 s a9
    rw [pk_m1]
    have hm := h.1
    exact br_f (nI_pos (by omega)) (zq_c34 hn (by omega) h4 h2 h.2 (fun a8' h8' => hw a8' ⟨by omega, h8'⟩))
theorem zq_composed {post : Int32 → St2 → Prop} {a1 a2 a3 a4 a5 a6 a7 a8 a9 : Nat → Int32} {r n : Nat} (hn : n < 16)
    (h4 : ∀ k, k ≤ n → a5 (64 + k) = nI (r ^ k % 97)) (h2 : ∀ k, k ≤ n → a5 (32 + k) = nI (if k = 1 then zq_l r else 0))
    (H : ∀ a8', post (nI ((zq_l r * r) ^ n % 97)) (a1, a2, a3, a4, a5, a6, a7, a8', a9)) :
    wpX_composed post (a1, a2, a3, a4, a5, a6, a7, a8, a9) (nI 64) (nI 32) (nI n) := by
  refine pk_loop (fun k i s => wX_composed_3 post (nI 64) (nI 32) (nI n) k (nI i) a1 a2 a3 a4 a5 a6 a7 s a9) (fun i s => ∀ j, j < i → s j = nI 0) (n + 1) 0 a8 (by omega) (fun j hj => absurd hj (by omega)) ?_ ?_
  · intro k s h
    exact pk_lt n (n + 1) (fun _ => zq_c26 hn h4 h2 (fun i hi => h i (by omega)) H) (fun z => absurd z (by omega))
  · intro k i s hi h hw
    refine pk_lt n i (fun z => absurd z (by omega)) (fun _ => ⟨pk_in i 16 (by omega), nm_e (nm_r (nI_1 i) (hw _ (fun j hj => ?_)))⟩)
    rw [nI_clamp (by omega)]
    by_cases e : j = i
    · subst e
      rw [pk_us]
      rfl
    · rw [pk_un e]
      exact h j (by omega)
end
section
/-- the tables, once all eight series are defined -/
def zq_T (r t : Nat) (a1 a2 a3 a9 : Nat → Int32) : Prop :=
  (a1 0 = nI 0 ∧ a1 1 = nI 1 ∧ a1 2 = nI 4 ∧ a1 3 = nI 2 ∧ a1 4 = nI 7 ∧ a1 5 = nI 3 ∧ a1 6 = nI 8 ∧ a1 7 = nI 9)
  ∧ (a2 2 = nI 1 ∧ a2 3 = nI 0 ∧ a2 4 = nI 3 ∧ a2 5 = nI 3 ∧ a2 6 = nI 4 ∧ a2 7 = nI 4)
  ∧ (a3 0 = nI 1 ∧ a3 2 = nI (zq_l r) ∧ a3 3 = nI 2 ∧ a3 5 = nI 4 ∧ a3 6 = nI t ∧ a3 7 = nI 2)
  ∧ a9 1 = nI 1
theorem zq_need {post : Int32 → Prop} {r t : Nat} {a1 a2 a3 a4 a5 a6 a7 a8 a9 : Nat → Int32} (T : zq_T r t a1 a2 a3 a9) {i : Nat} (hi : i ≤ 40) : ∀ p, p < 128 →
    (i < zq_cnt p → post (nI (zq_nd p i))) → (zq_cnt p ≤ i → post (-1)) → wpX_need post (a1, a2, a3, a4, a5, a6, a7, a8, a9) (nI p) (nI i) := by
  obtain ⟨⟨k0, k1, k2, k3, k4, k5, k6, k7⟩, ⟨f2, f3, f4, f5, f6, f7⟩, ⟨c0, c2, c3, c5, c6, c7⟩, i1⟩ := T
  refine zq_cases (fun n h h1 h2 => ?_) (fun n h h1 h2 => ?_) (fun n h h1 h2 => ?_) (fun n h h1 h2 => ?_) (fun n h h1 h2 => ?_) (fun n h h1 h2 => ?_) (fun n h h1 h2 => ?_) (fun n h h1 h2 => ?_)
  · rw [zq_cnt0 h] at h1 h2
    have s1 : nI n >>> ((4 : Int32) &&& 31) = nI 0 := by
      have e := zq_sh 0 n (by decide) h
      rwa [show 16 * 0 + n = n by omega] at e
    have s2 : nI n &&& 15 = nI n := by
      have e := zq_an 0 n (by decide) h
      rwa [show 16 * 0 + n = n by omega] at e
    have P := h2 (Nat.zero_le i)
    refine nm_r s1 (nm_r s2 ⟨pk_in 0 8 (by decide), nm_e ⟨pk_in 0 8 (by decide), nm_r (zq_at (by decide) k0) ?_⟩⟩)
    refine br_f (by decide) (br_f (by decide) (br_f (by decide) (br_f (by decide) ?_)))
    exact pk_lt 0 i (fun _ => P) (fun _ => br_f (by decide) P)
  · rw [zq_cnt1 h] at h1 h2
    have s1 : nI (16 + n) >>> ((4 : Int32) &&& 31) = nI 1 := zq_sh 1 n (by decide) h
    have s2 : nI (16 + n) &&& 15 = nI n := zq_an 1 n (by decide) h
    have P := h2 (Nat.zero_le i)
    refine nm_r s1 (nm_r s2 ⟨pk_in 1 8 (by decide), nm_e ⟨pk_in 1 8 (by decide), nm_r (zq_at (by decide) k1) ?_⟩⟩)
    refine br_f (by decide) (br_f (by decide) (br_f (by decide) (br_f (by decide) ?_)))
    exact pk_lt 0 i (fun _ => P) (fun _ => br_f (by decide) P)
  · rw [zq_cnt2 h, zq_nd2 h] at h1
    rw [zq_cnt2 h] at h2
    have s1 : nI (32 + n) >>> ((4 : Int32) &&& 31) = nI 2 := zq_sh 2 n (by decide) h
    have s2 : nI (32 + n) &&& 15 = nI n := zq_an 2 n (by decide) h
    have c : nI (16 * 1) + nI n = nI (16 + n) := nI_add 16 n
    refine nm_r s1 (nm_r s2 ⟨pk_in 2 8 (by decide), nm_r (zq_16 (by decide) f2) ⟨pk_in 2 8 (by decide), nm_r (zq_at (by decide) k2) ?_⟩⟩)
    refine br_f (by decide) (br_f (by decide) (br_f (by decide) (br_f (by decide) ?_)))
    exact pk_lt 0 i (fun z => h2 (by omega)) (fun z => br_t (by decide) (br_f (by decide) (br_f (by decide) (br_f (by decide) (ek_v c (h1 (by omega)))))))
  · rw [zq_cnt3 h, zq_nd3 h] at h1
    rw [zq_cnt3 h] at h2
    have s1 : nI (48 + n) >>> ((4 : Int32) &&& 31) = nI 3 := zq_sh 3 n (by decide) h
    have s2 : nI (48 + n) &&& 15 = nI n := zq_an 3 n (by decide) h
    have c : nI (16 * 0) + nI n = nI n := by
      rw [nI_add]
      congr 1
      omega
    have d : 16 * a3 (nI 3).toNatClampNeg + nI n = nI (32 + n) := by
      rw [zq_16 (by decide) c3]
      exact nI_add 32 n
    refine nm_r s1 (nm_r s2 ⟨pk_in 3 8 (by decide), nm_r (zq_16 (by decide) f3) ⟨pk_in 3 8 (by decide), nm_r (zq_at (by decide) k3) ?_⟩⟩)
    refine br_f (by decide) (br_f (by decide) (br_f (by decide) (br_t (by decide) ?_)))
    refine pk_eq i 1 (fun z => ⟨pk_in 3 8 (by decide), ek_v d ?_⟩) (fun z => ?_)
    · have e := h1 (by omega)
      rwa [if_neg (by omega)] at e
    · refine pk_lt 0 i (fun z => h2 (by omega)) (fun z => br_t (by decide) (br_f (by decide) (br_f (by decide) (br_f (by decide) (ek_v c ?_)))))
      have e := h1 (by omega)
      rwa [if_pos (by omega)] at e
  · rw [zq_cnt4 h, zq_nd4 h] at h1
    rw [zq_cnt4 h] at h2
    have s1 : nI (64 + n) >>> ((4 : Int32) &&& 31) = nI 4 := zq_sh 4 n (by decide) h
    have s2 : nI (64 + n) &&& 15 = nI n := zq_an 4 n (by decide) h
    have t2 : 2 * nI n = nI (2 * n) := pk_mul 2 n
    refine nm_r s1 (nm_r s2 ⟨pk_in 4 8 (by decide), nm_r (zq_16 (by decide) f4) ⟨pk_in 4 8 (by decide), nm_r (zq_at (by decide) k4) ?_⟩⟩)
    refine br_f (by decide) (br_f (by decide) (br_t (by decide) ?_))
    refine pk_lt n i (fun z => pk_lt (2 * n) i (fun z2 => h2 (by omega)) (fun z2 => ?_) t2) (fun z => ?_)
    · have d : 16 * nI 4 + nI i - nI n - 1 = nI (64 + (i - n - 1)) := by
        rw [show (16 * nI 4 : Int32) = nI 64 from pk_mul 16 4, nI_add, pk_sub (by omega)]
        refine (pk_sub (b := 1) (by omega)).trans ?_
        congr 1
        omega
      have e := h1 (by omega)
      rw [if_neg (by omega)] at e
      exact ek_v d e
    · have e := h1 (by omega)
      rw [if_pos (by omega)] at e
      exact ek_v (show nI (16 * 3) + nI i = nI (48 + i) from nI_add 48 i) e
  · rw [zq_cnt5 h, zq_nd5 h] at h1
    rw [zq_cnt5 h] at h2
    have s1 : nI (80 + n) >>> ((4 : Int32) &&& 31) = nI 5 := zq_sh 5 n (by decide) h
    have s2 : nI (80 + n) &&& 15 = nI n := zq_an 5 n (by decide) h
    have t2 : 2 * nI n + 1 = nI (2 * n + 1) := by
      rw [show (2 * nI n : Int32) = nI (2 * n) from pk_mul 2 n, nI_1]
    refine nm_r s1 (nm_r s2 ⟨pk_in 5 8 (by decide), nm_r (zq_16 (by decide) f5) ⟨pk_in 5 8 (by decide), nm_r (zq_at (by decide) k5) ?_⟩⟩)
    refine br_t (by decide) ?_
    refine pk_lt n i (fun z => pk_lt (2 * n + 1) i (fun z2 => h2 (by omega)) (fun z2 => ⟨pk_in 5 8 (by decide), ?_⟩) t2) (fun z => ?_)
    · have d : 16 * a3 (nI 5).toNatClampNeg + nI i - nI n - 1 = nI (64 + (i - n - 1)) := by
        rw [zq_16 (by decide) c5, nI_add, pk_sub (by omega)]
        refine (pk_sub (b := 1) (by omega)).trans ?_
        congr 1
        omega
      have e := h1 (by omega)
      rw [if_neg (by omega)] at e
      exact ek_v d e
    · have e := h1 (by omega)
      rw [if_pos (by omega)] at e
      exact ek_v (show nI (16 * 3) + nI i = nI (48 + i) from nI_add 48 i) e
  · rw [zq_cnt6 h, zq_nd6 h] at h1
    rw [zq_cnt6 h] at h2
    have s1 : nI (96 + n) >>> ((4 : Int32) &&& 31) = nI 6 := zq_sh 6 n (by decide) h
    have s2 : nI (96 + n) &&& 15 = nI n := zq_an 6 n (by decide) h
    refine nm_r s1 (nm_r s2 ⟨pk_in 6 8 (by decide), nm_r (zq_16 (by decide) f6) ⟨pk_in 6 8 (by decide), nm_r (zq_at (by decide) k6) ?_⟩⟩)
    refine br_f (by decide) (br_f (by decide) (br_f (by decide) (br_f (by decide) ?_)))
    refine pk_lt 0 i (fun z => h2 (by split <;> omega)) (fun z => br_t (by decide) (br_f (by decide) (br_f (by decide) (br_t (by decide) ?_))))
    refine pk_le n 0 (fun z2 => h2 (by rw [if_pos (by omega)]; omega)) (fun z2 => ?_)
    have d : nI (16 * 4) + nI n - 1 = nI (63 + n) := by
      rw [nI_add]
      refine (pk_sub (b := 1) (by omega)).trans ?_
      congr 1
      omega
    exact ek_v d (h1 (by rw [if_neg (by omega)]; omega))
  · rw [zq_cnt7, zq_nd7] at h1
    rw [zq_cnt7] at h2
    have s1 : nI (112 + n) >>> ((4 : Int32) &&& 31) = nI 7 := zq_sh 7 n (by decide) h
    have s2 : nI (112 + n) &&& 15 = nI n := zq_an 7 n (by decide) h
    have t2 : 2 * nI n + 1 = nI (2 * n + 1) := by
      rw [show (2 * nI n : Int32) = nI (2 * n) from pk_mul 2 n, nI_1]
    refine nm_r s1 (nm_r s2 ⟨pk_in 7 8 (by decide), nm_r (zq_16 (by decide) f7) ⟨pk_in 7 8 (by decide), nm_r (zq_at (by decide) k7) ?_⟩⟩)
    refine br_f (by decide) (br_t (by decide) ?_)
    refine pk_lt n i (fun z => pk_lt (2 * n + 1) i (fun z2 => h2 (by omega)) (fun z2 => ⟨pk_in 7 8 (by decide), ?_⟩) t2) (fun z => ?_)
    · have d : 16 * a3 (nI 7).toNatClampNeg + nI i - nI n - 1 = nI (32 + (i - n - 1)) := by
        rw [zq_16 (by decide) c7, nI_add, pk_sub (by omega)]
        refine (pk_sub (b := 1) (by omega)).trans ?_
        congr 1
        omega
      have e := h1 (by omega)
      rw [if_neg (by omega)] at e
      exact ek_v d e
    · have e := h1 (by omega)
      rw [if_pos (by omega)] at e
      exact ek_v (show nI (16 * 4) + nI i = nI (64 + i) from nI_add 64 i) e
theorem zq_c247 {post : Int32 → St2 → Prop} {a1 a2 a3 a4 a5 a6 a7 a8 a9 : Nat → Int32} {p v : Nat} (x : Nat) (hp : p < 128) (hx : x < 2 ^ 31) (hv : x % 97 = v)
    (H : post 1 (a1, a2, a3, a4, upd a5 p (nI v), a6, a7, a8, a9)) : wX_compute_247 post (nI p) (nI x) a1 a2 a3 a4 a5 a6 a7 a8 a9 := by
  refine ⟨by decide, pk_in p 128 hp, nm_r ?_ H⟩
  rw [nI_clamp (by omega), zq_rem hx, hv]
theorem zq_nb : narrow .boolean (.int 1) = .int 1 := by rfl
theorem zq_long4 {post : Int32 → St2 → Prop} {r t : Nat} {a1 a2 a3 a4 a5 a6 a7 a8 a9 : Nat → Int32} (T : zq_T r t a1 a2 a3 a9) (hr : r < 97) {n : Nat} (h : n < 16)
    (v3 : ∀ i, i ≤ n → a5 (48 + i) = nI (zq_V r t (48 + i))) (v4 : ∀ i, i < n → a5 (64 + i) = nI (zq_V r t (64 + i)))
    (H : post 1 (a1, a2, a3, a4, upd a5 (64 + n) (nI (zq_V r t (64 + n))), a6, a7, a8, a9)) : wpX_computeLong post (a1, a2, a3, a4, a5, a6, a7, a8, a9) (nI (64 + n)) := by
  obtain ⟨⟨k0, k1, k2, k3, k4, k5, k6, k7⟩, ⟨f2, f3, f4, f5, f6, f7⟩, ⟨c0, c2, c3, c5, c6, c7⟩, i1⟩ := T
  have s1 : nI (64 + n) >>> ((4 : Int32) &&& 31) = nI 4 := zq_sh 4 n (by decide) h
  have s2 : nI (64 + n) &&& 15 = nI n := zq_an 4 n (by decide) h
  have z48 : a5 48 = nI 1 := by
    have e := v3 0 (by omega)
    rwa [zq_V3 (by decide), if_pos rfl] at e
  have w48 : a5 (nI (16 * 3)).toNatClampNeg = nI 1 := zq_at (s := 48) (by decide) z48
  refine nm_r s1 (nm_r s2 ⟨pk_in 4 8 (by decide), nm_r (zq_16 (by decide) f4) ⟨pk_in 4 8 (by decide), nm_e ⟨pk_in 4 8 (by decide), ?_⟩⟩⟩)
  refine br_f (by rw [zq_at (by decide) k4]; decide) ⟨pk_in 4 8 (by decide), br_t (by rw [zq_at (by decide) k4]; decide) ⟨pk_in 48 128 (by decide), ?_⟩⟩
  refine br_f (by rw [w48]; decide) ⟨pk_in 48 128 (by decide), by rw [w48]; exact pk_in 1 97 (by decide), ?_⟩
  refine nm_r (e' := nI 1) (by rw [w48]; exact zq_at (by decide) i1) ?_
  rw [show (16 * nI 4 : Int32) = nI 64 from pk_mul 16 4]
  refine zq_product (a := 48) (b := 64) (f := 1) (fun i => if i ≤ 1 then 0 else zq_l r * (r ^ (n - 1) % 97) % 97) (fun i => zq_V r t (48 + i)) (fun i => zq_V r t (64 + (n - i))) (by omega) (by omega) (by omega) (by rfl) ?_ ?_
  · intro i hi1 hi2
    have hl := zq_llt r
    refine ⟨v3 i hi2, v4 (n - i) (by omega), ?_, ?_, ?_⟩
    · rw [zq_V3 (by omega), if_neg (by omega)]
      split <;> omega
    · rw [zq_V4 (by omega)]
      exact Nat.mod_lt _ (by decide)
    · show (if i + 1 ≤ 1 then 0 else zq_l r * (r ^ (n - 1) % 97) % 97) = ((if i ≤ 1 then 0 else zq_l r * (r ^ (n - 1) % 97) % 97) + zq_V r t (48 + i) * zq_V r t (64 + (n - i))) % 97
      rw [if_neg (by omega), zq_V3 (by omega), zq_V4 (by omega), if_neg (show ¬ i = 0 by omega)]
      by_cases e1 : i = 1
      · subst e1
        rw [if_pos (by omega), if_pos rfl, Nat.zero_add]
      · rw [if_neg (by omega), if_neg e1, Nat.zero_mul]
        exact (Nat.mod_mod _ 97).symm
  · rw [zq_V4 h] at H
    refine pk_eq n 0 (fun z => ⟨pk_in (64 + n) 128 (by omega), nm_r ?_ H⟩) (fun z => ⟨by decide, pk_in (64 + n) 128 (by omega), nm_r ?_ H⟩)
    · rw [nI_clamp (by omega), z, Nat.pow_zero]
    · have e : (if n + 1 ≤ 1 then 0 else zq_l r * (r ^ (n - 1) % 97) % 97) = zq_l r * (r ^ (n - 1) % 97) % 97 := if_neg (by omega)
      have l1 : zq_l r * (r ^ (n - 1) % 97) % 97 < 97 := Nat.mod_lt _ (by decide)
      have e2 : (97 : Int32) - nI (if n + 1 ≤ 1 then 0 else zq_l r * (r ^ (n - 1) % 97) % 97) = nI (97 - zq_l r * (r ^ (n - 1) % 97) % 97) := by
        rw [e]
        exact pk_sub (a := 97) (by omega)
      rw [nI_clamp (by omega), e2, pk_mul, zq_rem (by omega), Nat.mul_one, zq_m1 _ hr, ← zq_pw (by omega)]
theorem zq_long5 {post : Int32 → St2 → Prop} {r t : Nat} {a1 a2 a3 a4 a5 a6 a7 a8 a9 : Nat → Int32} (T : zq_T r t a1 a2 a3 a9) (hr : r < 97) {n : Nat} (h : n < 16)
    (v3 : ∀ i, i ≤ n → a5 (48 + i) = nI (zq_V r t (48 + i))) (v4 : ∀ i, i ≤ n → a5 (64 + i) = nI (zq_V r t (64 + i)))
    (H : post 1 (a1, a2, a3, a4, upd a5 (80 + n) (nI (zq_V r t (80 + n))), a6, a7, a8, a9)) : wpX_computeLong post (a1, a2, a3, a4, a5, a6, a7, a8, a9) (nI (80 + n)) := by
  obtain ⟨⟨k0, k1, k2, k3, k4, k5, k6, k7⟩, ⟨f2, f3, f4, f5, f6, f7⟩, ⟨c0, c2, c3, c5, c6, c7⟩, i1⟩ := T
  have s1 : nI (80 + n) >>> ((4 : Int32) &&& 31) = nI 5 := zq_sh 5 n (by decide) h
  have s2 : nI (80 + n) &&& 15 = nI n := zq_an 5 n (by decide) h
  refine nm_r s1 (nm_r s2 ⟨pk_in 5 8 (by decide), nm_r (zq_16 (by decide) f5) ⟨pk_in 5 8 (by decide), nm_r (zq_16 (by decide) c5) ⟨pk_in 5 8 (by decide), ?_⟩⟩⟩)
  refine br_t (by rw [zq_at (by decide) k5]; decide) ?_
  refine zq_product (a := 48) (b := 64) (f := 0) (fun i => if i = 0 then 0 else if i = 1 then r ^ n % 97 else 0) (fun i => zq_V r t (48 + i)) (fun i => zq_V r t (64 + (n - i))) (by omega) (by omega) (by omega) (by rfl) ?_ ?_
  · intro i hi1 hi2
    have hl := zq_llt r
    refine ⟨v3 i hi2, v4 (n - i) (by omega), ?_, ?_, ?_⟩
    · rw [zq_V3 (by omega)]
      split
      · omega
      · split <;> omega
    · rw [zq_V4 (by omega)]
      exact Nat.mod_lt _ (by decide)
    · show (if i + 1 = 0 then 0 else if i + 1 = 1 then r ^ n % 97 else 0) = ((if i = 0 then 0 else if i = 1 then r ^ n % 97 else 0) + zq_V r t (48 + i) * zq_V r t (64 + (n - i))) % 97
      rw [if_neg (by omega), zq_V3 (by omega), zq_V4 (by omega)]
      by_cases e0 : i = 0
      · subst e0
        rw [if_pos (by omega), if_pos rfl, if_pos rfl, Nat.zero_add, Nat.one_mul, Nat.mod_mod, Nat.sub_zero]
      · rw [if_neg (by omega), if_neg e0, if_neg e0]
        by_cases e1 : i = 1
        · subst e1
          rw [if_pos rfl, if_pos rfl, zq_pw hi2, zq_m2 _ hr]
        · rw [if_neg e1, if_neg e1, Nat.zero_mul]
  · refine ⟨pk_in (80 + n) 128 (by omega), nm_r ?_ H⟩
    rw [nI_clamp (by omega), zq_V5 h]
    by_cases e0 : n = 0
    · subst e0
      rfl
    · rw [if_neg e0]
      show upd a5 (80 + n) (nI (if n + 1 = 0 then 0 else if n + 1 = 1 then r ^ n % 97 else 0)) = _
      rw [if_neg (by omega), if_neg (by omega)]
theorem zq_long7 {post : Int32 → St2 → Prop} {r t : Nat} {a1 a2 a3 a4 a5 a6 a7 a8 a9 : Nat → Int32} (T : zq_T r t a1 a2 a3 a9) {n : Nat} (h : n < 16)
    (v4 : ∀ i, i ≤ n → a5 (64 + i) = nI (zq_V r t (64 + i))) (v2 : ∀ i, i ≤ n → a5 (32 + i) = nI (zq_V r t (32 + i)))
    (H : ∀ a8', post 1 (a1, a2, a3, a4, upd a5 (112 + n) (nI (zq_V r t (112 + n))), a6, a7, a8', a9)) : wpX_computeLong post (a1, a2, a3, a4, a5, a6, a7, a8, a9) (nI (112 + n)) := by
  obtain ⟨⟨k0, k1, k2, k3, k4, k5, k6, k7⟩, ⟨f2, f3, f4, f5, f6, f7⟩, ⟨c0, c2, c3, c5, c6, c7⟩, i1⟩ := T
  have s1 : nI (112 + n) >>> ((4 : Int32) &&& 31) = nI 7 := zq_sh 7 n (by decide) h
  have s2 : nI (112 + n) &&& 15 = nI n := zq_an 7 n (by decide) h
  have z32 : a5 32 = nI 0 := by
    have e := v2 0 (by omega)
    rwa [zq_V2 (by decide), if_neg (by decide)] at e
  have w32 : a5 (nI (16 * 2)).toNatClampNeg = nI 0 := zq_at (s := 32) (by decide) z32
  refine nm_r s1 (nm_r s2 ⟨pk_in 7 8 (by decide), nm_r (zq_16 (by decide) f7) ⟨pk_in 7 8 (by decide), nm_r (zq_16 (by decide) c7) ⟨pk_in 7 8 (by decide), ?_⟩⟩⟩)
  refine br_f (by rw [zq_at (by decide) k7]; decide) ⟨pk_in 7 8 (by decide), br_f (by rw [zq_at (by decide) k7]; decide) ⟨pk_in 32 128 (by decide), ?_⟩⟩
  refine br_t (by rw [w32]; decide) ?_
  refine zq_composed (r := r) h (fun k hk => by rw [v4 k hk, zq_V4 (by omega)]) (fun k hk => by rw [v2 k hk, zq_V2 (by omega)]) (fun a8' => ?_)
  refine ⟨pk_in (112 + n) 128 (by omega), nm_r ?_ (H a8')⟩
  rw [nI_clamp (by omega), zq_V7]
theorem zq_compute {post : Int32 → St2 → Prop} {r t : Nat} {a1 a2 a3 a4 a5 a6 a7 a8 a9 : Nat → Int32} (T : zq_T r t a1 a2 a3 a9) (hr : r < 97) (ht : t < 97) : ∀ p, p < 128 →
    (∀ j, j < zq_cnt p → a5 (zq_nd p j) = nI (zq_V r t (zq_nd p j))) → (∀ a8', post 1 (a1, a2, a3, a4, upd a5 p (nI (zq_V r t p)), a6, a7, a8', a9)) →
    wpX_compute post (a1, a2, a3, a4, a5, a6, a7, a8, a9) (nI p) := by
  have T' := T
  obtain ⟨⟨k0, k1, k2, k3, k4, k5, k6, k7⟩, ⟨f2, f3, f4, f5, f6, f7⟩, ⟨c0, c2, c3, c5, c6, c7⟩, i1⟩ := T'
  have hl := zq_llt r
  refine zq_cases (fun n h hv H => ?_) (fun n h hv H => ?_) (fun n h hv H => ?_) (fun n h hv H => ?_) (fun n h hv H => ?_) (fun n h hv H => ?_) (fun n h hv H => ?_) (fun n h hv H => ?_)
  · have s1 : nI n >>> ((4 : Int32) &&& 31) = nI 0 := by
      have e := zq_sh 0 n (by decide) h
      rwa [show 16 * 0 + n = n by omega] at e
    have s2 : nI n &&& 15 = nI n := by
      have e := zq_an 0 n (by decide) h
      rwa [show 16 * 0 + n = n by omega] at e
    refine nm_r s1 (nm_r s2 ⟨pk_in 0 8 (by decide), nm_e ⟨pk_in 0 8 (by decide), nm_r (zq_at (by decide) c0) ⟨pk_in 0 8 (by decide), nm_r (zq_at (by decide) k0) ?_⟩⟩⟩)
    refine br_t (by decide) (pk_eq n 0 (fun z => ?_) (fun z => ?_))
    · exact zq_c247 1 (by omega) (by decide) (by rw [zq_V0 h, if_pos z]) (H a8)
    · exact zq_c247 0 (by omega) (by decide) (by rw [zq_V0 h, if_neg z]) (H a8)
  · have s1 : nI (16 + n) >>> ((4 : Int32) &&& 31) = nI 1 := zq_sh 1 n (by decide) h
    have s2 : nI (16 + n) &&& 15 = nI n := zq_an 1 n (by decide) h
    refine nm_r s1 (nm_r s2 ⟨pk_in 1 8 (by decide), nm_e ⟨pk_in 1 8 (by decide), nm_e ⟨pk_in 1 8 (by decide), nm_r (zq_at (by decide) k1) ?_⟩⟩⟩)
    refine br_f (by decide) (br_t (by decide) (pk_eq n 1 (fun z => ?_) (fun z => ?_)))
    · exact zq_c247 1 (by omega) (by decide) (by rw [zq_V1 h, if_pos z]) (H a8)
    · exact zq_c247 0 (by omega) (by decide) (by rw [zq_V1 h, if_neg z]) (H a8)
  · have s1 : nI (32 + n) >>> ((4 : Int32) &&& 31) = nI 2 := zq_sh 2 n (by decide) h
    have s2 : nI (32 + n) &&& 15 = nI n := zq_an 2 n (by decide) h
    have c : nI (16 * 1) + nI n = nI (16 + n) := nI_add 16 n
    have e := hv 0 (by rw [zq_cnt2 h]; decide)
    rw [zq_nd2 h, zq_V1 h] at e
    have b : (if n = 1 then 1 else 0) < 97 := by split <;> omega
    have b2 := zq_mlt hl b
    refine nm_r s1 (nm_r s2 ⟨pk_in 2 8 (by decide), nm_r (zq_16 (by decide) f2) ⟨pk_in 2 8 (by decide), nm_r (zq_at (by decide) c2) ⟨pk_in 2 8 (by decide), nm_r (zq_at (by decide) k2) ?_⟩⟩⟩)
    refine br_f (by decide) (br_f (by decide) (br_f (by decide) (br_t (by decide) ⟨pk_in (16 + n) 128 (by omega) c, nm_r (e' := nI (zq_l r * (if n = 1 then 1 else 0))) ?_ ?_⟩)))
    · rw [c, nI_clamp (by omega), e, pk_mul]
    · refine zq_c247 _ (by omega) (by omega) ?_ (H a8)
      rw [zq_V2 h]
      by_cases e1 : n = 1
      · rw [if_pos e1, if_pos e1, Nat.mul_one, Nat.mod_eq_of_lt hl]
      · rw [if_neg e1, if_neg e1, Nat.mul_zero]
  · have s1 : nI (48 + n) >>> ((4 : Int32) &&& 31) = nI 3 := zq_sh 3 n (by decide) h
    have s2 : nI (48 + n) &&& 15 = nI n := zq_an 3 n (by decide) h
    have c : nI (16 * 0) + nI n = nI n := by
      rw [nI_add]
      congr 1
      omega
    have d : 16 * nI 2 + nI n = nI (32 + n) := by
      rw [show (16 * nI 2 : Int32) = nI 32 from pk_mul 16 2]
      exact nI_add 32 n
    have e0 := hv 0 (by rw [zq_cnt3 h]; decide)
    have e1 := hv 1 (by rw [zq_cnt3 h]; decide)
    rw [zq_nd3 h, if_pos rfl, zq_V0 h] at e0
    rw [zq_nd3 h, if_neg (by decide), zq_V2 h] at e1
    have b0 : (if n = 0 then 1 else 0) < 97 := by split <;> omega
    have b1 : (if n = 1 then zq_l r else 0) < 97 := by split <;> omega
    refine nm_r s1 (nm_r s2 ⟨pk_in 3 8 (by decide), nm_r (zq_16 (by decide) f3) ⟨pk_in 3 8 (by decide), nm_r (zq_at (by decide) c3) ⟨pk_in 3 8 (by decide), nm_r (zq_at (by decide) k3) ?_⟩⟩⟩)
    refine br_f (by decide) (br_f (by decide) (br_t (by decide) ⟨pk_in n 128 (by omega) c, pk_in (32 + n) 128 (by omega) d, nm_r (e' := nI ((if n = 0 then 1 else 0) + (if n = 1 then zq_l r else 0))) ?_ ?_⟩))
    · rw [c, d, nI_clamp (by omega), nI_clamp (by omega), e0, e1, nI_add]
    · refine zq_c247 _ (by omega) (by omega) ?_ (H a8)
      rw [zq_V3 h]
      by_cases z0 : n = 0
      · rw [if_pos z0, if_pos z0, if_neg (by omega)]
      · rw [if_neg z0, if_neg z0, Nat.zero_add]
        by_cases z1 : n = 1
        · rw [if_pos z1, Nat.mod_eq_of_lt hl]
        · rw [if_neg z1]
  · have s1 : nI (64 + n) >>> ((4 : Int32) &&& 31) = nI 4 := zq_sh 4 n (by decide) h
    have s2 : nI (64 + n) &&& 15 = nI n := zq_an 4 n (by decide) h
    refine nm_r s1 (nm_r s2 ⟨pk_in 4 8 (by decide), nm_r (zq_16 (by decide) f4) ⟨pk_in 4 8 (by decide), nm_e ⟨pk_in 4 8 (by decide), nm_r (zq_at (by decide) k4) ?_⟩⟩⟩)
    refine br_f (by decide) (br_f (by decide) (br_f (by decide) (br_f (by decide) (br_f (by decide) (br_f (by decide) (br_f (by decide) ?_))))))
    refine zq_long4 T hr h (fun i hi => ?_) (fun i hi => ?_) ⟨zq_nb, H a8⟩
    · have e := hv i (by rw [zq_cnt4 h]; omega)
      rwa [zq_nd4 h, if_pos hi] at e
    · have e := hv (n + 1 + i) (by rw [zq_cnt4 h]; omega)
      rwa [zq_nd4 h, if_neg (by omega), show n + 1 + i - n - 1 = i by omega] at e
  · have s1 : nI (80 + n) >>> ((4 : Int32) &&& 31) = nI 5 := zq_sh 5 n (by decide) h
    have s2 : nI (80 + n) &&& 15 = nI n := zq_an 5 n (by decide) h
    refine nm_r s1 (nm_r s2 ⟨pk_in 5 8 (by decide), nm_r (zq_16 (by decide) f5) ⟨pk_in 5 8 (by decide), nm_e ⟨pk_in 5 8 (by decide), nm_r (zq_at (by decide) k5) ?_⟩⟩⟩)
    refine br_f (by decide) (br_f (by decide) (br_f (by decide) (br_f (by decide) (br_f (by decide) (br_f (by decide) (br_f (by decide) ?_))))))
    refine zq_long5 T hr h (fun i hi => ?_) (fun i hi => ?_) ⟨zq_nb, H a8⟩
    · have e := hv i (by rw [zq_cnt5 h]; omega)
      rwa [zq_nd5 h, if_pos hi] at e
    · have e := hv (n + 1 + i) (by rw [zq_cnt5 h]; omega)
      rwa [zq_nd5 h, if_neg (by omega), show n + 1 + i - n - 1 = i by omega] at e
  · have s1 : nI (96 + n) >>> ((4 : Int32) &&& 31) = nI 6 := zq_sh 6 n (by decide) h
    have s2 : nI (96 + n) &&& 15 = nI n := zq_an 6 n (by decide) h
    refine nm_r s1 (nm_r s2 ⟨pk_in 6 8 (by decide), nm_r (zq_16 (by decide) f6) ⟨pk_in 6 8 (by decide), nm_r (zq_at (by decide) c6) ⟨pk_in 6 8 (by decide), nm_r (zq_at (by decide) k6) ?_⟩⟩⟩)
    refine br_f (by decide) (br_f (by decide) (br_f (by decide) (br_f (by decide) (br_f (by decide) (br_f (by decide) (br_t (by decide) ?_))))))
    refine pk_eq n 0 (fun z => ?_) (fun z => ?_)
    · exact zq_c247 t (by omega) (by omega) (by rw [zq_V6 h, if_pos z, Nat.mod_eq_of_lt ht]) (H a8)
    · have d : nI (16 * 4) + nI n - 1 = nI (63 + n) := by
        rw [nI_add]
        refine (pk_sub (b := 1) (by omega)).trans ?_
        congr 1
        omega
      have e := hv 0 (by rw [zq_cnt6 h, if_neg z]; decide)
      rw [zq_nd6 h, show 63 + n = 64 + (n - 1) by omega, zq_V4 (by omega)] at e
      have l1 : r ^ (n - 1) % 97 < 97 := Nat.mod_lt _ (by decide)
      refine ⟨pk_in (63 + n) 128 (by omega) d, ?_⟩
      rw [d, nI_clamp (by omega), show 63 + n = 64 + (n - 1) by omega, e]
      exact zq_c247 _ (by omega) (by omega) (by rw [zq_V6 h, if_neg z, Nat.mod_mod]) (H a8)
  · have s1 : nI (112 + n) >>> ((4 : Int32) &&& 31) = nI 7 := zq_sh 7 n (by decide) h
    have s2 : nI (112 + n) &&& 15 = nI n := zq_an 7 n (by decide) h
    refine nm_r s1 (nm_r s2 ⟨pk_in 7 8 (by decide), nm_r (zq_16 (by decide) f7) ⟨pk_in 7 8 (by decide), nm_e ⟨pk_in 7 8 (by decide), nm_r (zq_at (by decide) k7) ?_⟩⟩⟩)
    refine br_f (by decide) (br_f (by decide) (br_f (by decide) (br_f (by decide) (br_f (by decide) (br_f (by decide) (br_f (by decide) ?_))))))
    refine zq_long7 T h (fun i hi => ?_) (fun i hi => ?_) (fun a8' => ⟨zq_nb, H a8'⟩)
    · have e := hv i (by rw [zq_cnt7]; omega)
      rwa [zq_nd7, if_pos hi] at e
    · have e := hv (n + 1 + i) (by rw [zq_cnt7]; omega)
      rwa [zq_nd7, if_neg (by omega), show n + 1 + i - n - 1 = i by omega] at e
end
section
/-- the force loop at depth d after st steps; its fuel is what the steps leave -/
def zq_R (post : Int32 → St2 → Prop) (x1 : Int32) (a1 a2 a3 a9 : Nat → Int32) (d : Int32) (st : Nat) (a4 a5 a6 a7 a8 : Nat → Int32) : Prop :=
  wX_force_35 post x1 (20001 - st) d (nI st) a1 a2 a3 a4 a5 a6 a7 a8 a9
theorem zq_stF {post : Int32 → St2 → Prop} {x1 : Int32} {r t : Nat} {a1 a2 a3 a4 a5 a6 a7 a8 a9 : Nat → Int32} (T : zq_T r t a1 a2 a3 a9) {p i d st : Nat} (hp : p < 128) (hd : d < 128) (hst : st < 20000)
    (h6 : a6 d = nI p) (h7 : a7 d = nI i) (hi : i < zq_cnt p) (h4 : a4 (zq_nd p i) = 2)
    (H : zq_R post x1 a1 a2 a3 a9 (nI d) (st + 1) a4 a5 a6 (upd a7 d (nI (i + 1))) a8) : zq_R post x1 a1 a2 a3 a9 (nI d) st a4 a5 a6 a7 a8 := by
  unfold zq_R at H ⊢
  rw [show 20001 - st = (20001 - (st + 1)) + 1 by omega]
  generalize 20001 - (st + 1) = m at H ⊢
  have hc := zq_cntle p hp
  have hn := (zq_ndok p hp hi).1
  refine br_f (nI_ge (b := 20000) hst (by decide)) (br_f (nI_pos (by omega)) ⟨pk_in d 128 hd, nm_r (zq_at (by omega) h6) ⟨pk_in d 128 hd, ?_⟩⟩)
  rw [zq_at (by omega) h7]
  refine zq_need T (by omega) p hp (fun _ => br_f (zq_ne1 (by omega)) ⟨pk_in (zq_nd p i) 128 hn, br_t (zq_at (by omega) h4) ⟨pk_in d 128 hd, pk_in d 128 hd, nm_r ?_ (nm_r (nI_1 st) H)⟩⟩) (fun z => absurd z (by omega))
  rw [nI_clamp (by omega), nI_1]
theorem zq_stE {post : Int32 → St2 → Prop} {x1 : Int32} {r t : Nat} {a1 a2 a3 a4 a5 a6 a7 a8 a9 : Nat → Int32} (T : zq_T r t a1 a2 a3 a9) {p i d st : Nat} (hp : p < 128) (hd : d + 1 < 128) (hst : st < 20000)
    (h6 : a6 d = nI p) (h7 : a7 d = nI i) (hi : i < zq_cnt p) (h4 : a4 (zq_nd p i) = 0)
    (H : zq_R post x1 a1 a2 a3 a9 (nI (d + 1)) (st + 1) (upd a4 (zq_nd p i) 1) a5 (upd a6 (d + 1) (nI (zq_nd p i))) (upd a7 (d + 1) (nI 0)) a8) : zq_R post x1 a1 a2 a3 a9 (nI d) st a4 a5 a6 a7 a8 := by
  unfold zq_R at H ⊢
  rw [show 20001 - st = (20001 - (st + 1)) + 1 by omega]
  generalize 20001 - (st + 1) = m at H ⊢
  have hc := zq_cntle p hp
  have hn := (zq_ndok p hp hi).1
  refine br_f (nI_ge (b := 20000) hst (by decide)) (br_f (nI_pos (by omega)) ⟨pk_in d 128 (by omega), nm_r (zq_at (by omega) h6) ⟨pk_in d 128 (by omega), ?_⟩⟩)
  rw [zq_at (by omega) h7]
  refine zq_need T (by omega) p hp (fun _ => br_f (zq_ne1 (by omega)) ⟨pk_in (zq_nd p i) 128 hn, br_f (by rw [zq_at (by omega) h4]; decide) ⟨pk_in (zq_nd p i) 128 hn, br_t (zq_at (by omega) h4) (nm_r (nI_1 d) ?_)⟩⟩) (fun z => absurd z (by omega))
  refine ⟨pk_in (d + 1) 128 hd, nm_r (e' := upd a6 (d + 1) (nI (zq_nd p i))) ?_ ⟨pk_in (d + 1) 128 hd, nm_r (e' := upd a7 (d + 1) (nI 0)) ?_ ⟨pk_in (zq_nd p i) 128 hn, nm_r (e' := upd a4 (zq_nd p i) 1) ?_ (nm_r (nI_1 st) H)⟩⟩⟩
  · rw [nI_clamp (by omega)]
  · rw [nI_clamp (by omega)]
    rfl
  · rw [nI_clamp (by omega)]
theorem zq_stC {post : Int32 → St2 → Prop} {x1 : Int32} {r t : Nat} {a1 a2 a3 a4 a5 a6 a7 a8 a9 : Nat → Int32} (T : zq_T r t a1 a2 a3 a9) (hr : r < 97) (ht : t < 97) {p i d st : Nat} (hp : p < 128) (hd : d < 128) (hst : st < 20000)
    (h6 : a6 d = nI p) (h7 : a7 d = nI i) (hi : zq_cnt p = i) (h5 : ∀ j, j < zq_cnt p → a5 (zq_nd p j) = nI (zq_V r t (zq_nd p j)))
    (H : ∀ a8', zq_R post x1 a1 a2 a3 a9 (nI d + (-1)) (st + 1) (upd a4 p 2) (upd a5 p (nI (zq_V r t p))) a6 a7 a8') : zq_R post x1 a1 a2 a3 a9 (nI d) st a4 a5 a6 a7 a8 := by
  unfold zq_R at H ⊢
  rw [show 20001 - st = (20001 - (st + 1)) + 1 by omega]
  generalize 20001 - (st + 1) = m at H ⊢
  have hc := zq_cntle p hp
  refine br_f (nI_ge (b := 20000) hst (by decide)) (br_f (nI_pos (by omega)) ⟨pk_in d 128 hd, nm_r (zq_at (by omega) h6) ⟨pk_in d 128 hd, ?_⟩⟩)
  rw [zq_at (by omega) h7]
  refine zq_need T (by omega) p hp (fun z => absurd z (by omega)) (fun _ => br_t rfl ?_)
  refine zq_compute T hr ht p hp h5 (fun a8' => br_f (by decide) ⟨pk_in p 128 hp, nm_r (e' := upd a4 p 2) ?_ (nm_e (nm_r (nI_1 st) (H a8')))⟩)
  rw [nI_clamp (by omega)]
theorem zq_stX {post : Int32 → St2 → Prop} {a1 a2 a3 a4 a5 a6 a7 a8 a9 : Nat → Int32} {p st : Nat} (hp : p < 128) (hst : st ≤ 20000) (h4 : a4 p = 2)
    (H : post 1 (a1, a2, a3, a4, a5, a6, a7, a8, a9)) : zq_R post (nI p) a1 a2 a3 a9 (nI 0 + (-1)) st a4 a5 a6 a7 a8 := by
  unfold zq_R
  rw [show 20001 - st = (20001 - (st + 1)) + 1 by omega]
  generalize 20001 - (st + 1) = m
  have F : wX_force_165 post (nI p) a1 a2 a3 a4 a5 a6 a7 a8 a9 := ⟨pk_in p 128 hp, br_t (zq_at (by omega) h4) H⟩
  exact br_c (fun _ => F) (fun _ => br_t (by decide) F)
/-- a place on top of the stack is forced: the loop goes on one level below, the place found -/
theorem zq_B {post : Int32 → St2 → Prop} {x1 : Int32} {r t : Nat} {a1 a2 a3 a9 : Nat → Int32} (T : zq_T r t a1 a2 a3 a9) (hr : r < 97) (ht : t < 97) :
    ∀ ρ p, zq_rk p < ρ → p < 128 → ∀ k i, i + k = zq_cnt p → ∀ (d st : Nat) (a4 a5 a6 a7 a8 : Nat → Int32), d + zq_rk p < 100 → a6 d = nI p → a7 d = nI i → a4 p = 1 →
    (∀ q, q < 128 → zq_rk q < zq_rk p → a4 q = 0 ∨ a4 q = 2) → (∀ q, q < 128 → a4 q = 2 → a5 q = nI (zq_V r t q)) → (∀ j, j < i → a4 (zq_nd p j) = 2) →
    st + zq_phi a4 128 + k + 1 ≤ 20000 →
    (∀ (st' : Nat) (a4' a5' a6' a7' a8' : Nat → Int32), a4' p = 2 → (∀ q, q < 128 → q ≠ p → zq_rk p ≤ zq_rk q → a4' q = a4 q) → (∀ q, q < 128 → a4 q = 2 → a4' q = 2) →
      (∀ q, q < 128 → zq_rk q < zq_rk p → a4' q = 0 ∨ a4' q = 2) → (∀ q, q < 128 → a4' q = 2 → a5' q = nI (zq_V r t q)) → (∀ j, j < d → a6' j = a6 j) → (∀ j, j < d → a7' j = a7 j) →
      st' + zq_phi a4' 128 ≤ st + zq_phi a4 128 + k + 1 → zq_R post x1 a1 a2 a3 a9 (nI d + (-1)) st' a4' a5' a6' a7' a8') →
    zq_R post x1 a1 a2 a3 a9 (nI d) st a4 a5 a6 a7 a8 := by
  have n20 : ¬ (2 : Int32) = 0 := by decide
  have n10 : ¬ (1 : Int32) = 0 := by decide
  have n12 : ¬ (1 : Int32) = 2 := by decide
  intro ρ
  induction ρ with
  | zero => intro p h; omega
  | succ ρ ihρ =>
    intro p hρ hp k
    have hrk := zq_rkle p hp
    have hcn := zq_cntle p hp
    -- a step over a need that is found
    have over : ∀ k, (∀ i, i + k = zq_cnt p → ∀ (d st : Nat) (a4 a5 a6 a7 a8 : Nat → Int32), d + zq_rk p < 100 → a6 d = nI p → a7 d = nI i → a4 p = 1 →
        (∀ q, q < 128 → zq_rk q < zq_rk p → a4 q = 0 ∨ a4 q = 2) → (∀ q, q < 128 → a4 q = 2 → a5 q = nI (zq_V r t q)) → (∀ j, j < i → a4 (zq_nd p j) = 2) →
        st + zq_phi a4 128 + k + 1 ≤ 20000 →
        (∀ (st' : Nat) (a4' a5' a6' a7' a8' : Nat → Int32), a4' p = 2 → (∀ q, q < 128 → q ≠ p → zq_rk p ≤ zq_rk q → a4' q = a4 q) → (∀ q, q < 128 → a4 q = 2 → a4' q = 2) →
          (∀ q, q < 128 → zq_rk q < zq_rk p → a4' q = 0 ∨ a4' q = 2) → (∀ q, q < 128 → a4' q = 2 → a5' q = nI (zq_V r t q)) → (∀ j, j < d → a6' j = a6 j) → (∀ j, j < d → a7' j = a7 j) →
          st' + zq_phi a4' 128 ≤ st + zq_phi a4 128 + k + 1 → zq_R post x1 a1 a2 a3 a9 (nI d + (-1)) st' a4' a5' a6' a7' a8') →
        zq_R post x1 a1 a2 a3 a9 (nI d) st a4 a5 a6 a7 a8) →
      (∀ i, i + (k + 1) = zq_cnt p → ∀ (d st : Nat) (a4 a5 a6 a7 a8 : Nat → Int32), d + zq_rk p < 100 → a6 d = nI p → a7 d = nI i → a4 p = 1 →
        (∀ q, q < 128 → zq_rk q < zq_rk p → a4 q = 0 ∨ a4 q = 2) → (∀ q, q < 128 → a4 q = 2 → a5 q = nI (zq_V r t q)) → (∀ j, j < i → a4 (zq_nd p j) = 2) → a4 (zq_nd p i) = 2 →
        st + zq_phi a4 128 + (k + 1) + 1 ≤ 20000 →
        (∀ (st' : Nat) (a4' a5' a6' a7' a8' : Nat → Int32), a4' p = 2 → (∀ q, q < 128 → q ≠ p → zq_rk p ≤ zq_rk q → a4' q = a4 q) → (∀ q, q < 128 → a4 q = 2 → a4' q = 2) →
          (∀ q, q < 128 → zq_rk q < zq_rk p → a4' q = 0 ∨ a4' q = 2) → (∀ q, q < 128 → a4' q = 2 → a5' q = nI (zq_V r t q)) → (∀ j, j < d → a6' j = a6 j) → (∀ j, j < d → a7' j = a7 j) →
          st' + zq_phi a4' 128 ≤ st + zq_phi a4 128 + (k + 1) + 1 → zq_R post x1 a1 a2 a3 a9 (nI d + (-1)) st' a4' a5' a6' a7' a8') →
        zq_R post x1 a1 a2 a3 a9 (nI d) st a4 a5 a6 a7 a8) := by
      intro k ih i hik d st a4 a5 a6 a7 a8 hd h6 h7 h4p hlow hval hdone hf hst HK
      refine zq_stF T hp (by omega) (by omega) h6 h7 (by omega) hf ?_
      refine ih (i + 1) (by omega) d (st + 1) a4 a5 a6 _ a8 hd h6 pk_us h4p hlow hval (fun j hj => ?_) (by omega) ?_
      · by_cases e : j = i
        · rw [e]; exact hf
        · exact hdone j (by omega)
      · intro st' a4' a5' a6' a7' a8' g1 g2 g3 g4 g5 g6 g7 g8
        exact HK st' a4' a5' a6' a7' a8' g1 g2 g3 g4 g5 g6 (fun j hj => by rw [g7 j hj, pk_un (by omega)]) (by omega)
    induction k with
    | zero =>
      intro i hik d st a4 a5 a6 a7 a8 hd h6 h7 h4p hlow hval hdone hst HK
      refine zq_stC T hr ht hp (by omega) (by omega) h6 h7 (by omega) (fun j hj => hval _ (zq_ndok p hp hj).1 (hdone j (by omega))) (fun a8' => ?_)
      have hphi : zq_phi (upd a4 p 2) 128 = zq_phi a4 128 := zq_phi_same (by rw [h4p]; exact n10) n20 128
      refine HK (st + 1) (upd a4 p 2) _ a6 a7 a8' pk_us (fun q hq hqp _ => pk_un hqp) (fun q hq h2 => ?_) (fun q hq hl => ?_) (fun q hq h2 => ?_) (fun j hj => rfl) (fun j hj => rfl) (by omega)
      · by_cases e : q = p
        · rw [e, pk_us]
        · rw [pk_un e]; exact h2
      · rw [pk_un (fun e => by rw [e] at hl; omega)]
        exact hlow q hq hl
      · by_cases e : q = p
        · rw [e, pk_us]
        · rw [pk_un e] at h2 ⊢
          exact hval q hq h2
    | succ k ihk =>
      intro i hik d st a4 a5 a6 a7 a8 hd h6 h7 h4p hlow hval hdone hst HK
      obtain ⟨hq, hqr⟩ := zq_ndok (i := i) p hp (by omega)
      rcases hlow _ hq hqr with h0 | h2
      · -- the need is not asked yet: it is entered, forced, and then found
        have hqp : zq_nd p i ≠ p := fun e => by rw [e] at hqr; omega
        have hphi : zq_phi (upd a4 (zq_nd p i) 1) 128 + 36 = zq_phi a4 128 := zq_phi_in h0 n10 128 hq
        have hcq := zq_cntle _ hq
        refine zq_stE T hp (by omega) (by omega) h6 h7 (by omega) h0 ?_
        refine ihρ (zq_nd p i) (by omega) hq (zq_cnt (zq_nd p i)) 0 (by omega) (d + 1) (st + 1) _ a5 _ _ a8 (by omega) pk_us pk_us pk_us (fun q hq1 hl => ?_) (fun q hq1 h2 => ?_) (fun j hj => absurd hj (by omega)) (by omega) ?_
        · rw [pk_un (fun e => by rw [e] at hl; omega)]
          exact hlow q hq1 (by omega)
        · by_cases e : q = zq_nd p i
          · rw [e, pk_us] at h2
            exact absurd h2 n12
          · rw [pk_un e] at h2
            exact hval q hq1 h2
        · intro st1 b4 b5 b6 b7 b8 g1 g2 g3 g4 g5 g6 g7 g8
          rw [pk_m1]
          have B4 : ∀ q, q < 128 → q ≠ zq_nd p i → zq_rk (zq_nd p i) ≤ zq_rk q → b4 q = a4 q := fun q hq1 hne hle => by
            rw [g2 q hq1 hne hle, pk_un hne]
          have B2 : ∀ q, q < 128 → a4 q = 2 → b4 q = 2 := fun q hq1 h2 => by
            refine g3 q hq1 ?_
            rw [pk_un (fun e => by rw [e, h0] at h2; exact absurd h2.symm n20)]
            exact h2
          have BL : ∀ q, q < 128 → zq_rk q < zq_rk p → b4 q = 0 ∨ b4 q = 2 := fun q hq1 hl => by
            by_cases e : q = zq_nd p i
            · rw [e]; exact Or.inr g1
            · by_cases e2 : zq_rk q < zq_rk (zq_nd p i)
              · exact g4 q hq1 e2
              · rw [B4 q hq1 e (by omega)]
                exact hlow q hq1 hl
          have e6 : b6 d = nI p := by rw [g6 d (by omega), pk_un (by omega)]; exact h6
          have e7 : b7 d = nI i := by rw [g7 d (by omega), pk_un (by omega)]; exact h7
          refine over k ihk i hik d st1 b4 b5 b6 b7 b8 hd e6 e7 (by rw [B4 p hp (Ne.symm hqp) (by omega)]; exact h4p) BL g5 (fun j hj => B2 _ (zq_ndok p hp (by omega)).1 (hdone j hj)) g1 (by omega) ?_
          intro st' a4' a5' a6' a7' a8' f1 f2 f3 f4 f5 f6 f7 f8
          refine HK st' a4' a5' a6' a7' a8' f1 (fun q hq1 hne hle => ?_) (fun q hq1 h2 => f3 q hq1 (B2 q hq1 h2)) f4 f5 (fun j hj => ?_) (fun j hj => ?_) (by omega)
          · rw [f2 q hq1 hne hle, B4 q hq1 (fun e => by rw [e] at hle; omega) (by omega)]
          · rw [f6 j hj, g6 j (by omega), pk_un (by omega)]
          · rw [f7 j hj, g7 j (by omega), pk_un (by omega)]
      · exact over k ihk i hik d st a4 a5 a6 a7 a8 hd h6 h7 h4p hlow hval hdone h2 hst HK
/-- a state between two calls -/
def zq_G (r t : Nat) (a1 a2 a3 a4 a5 a9 : Nat → Int32) : Prop :=
  zq_T r t a1 a2 a3 a9 ∧ ∀ p, p < 128 → a4 p = 0 ∨ (a4 p = 2 ∧ a5 p = nI (zq_V r t p))
theorem zq_force {post : Int32 → St2 → Prop} {r t : Nat} {a1 a2 a3 a4 a5 a6 a7 a8 a9 : Nat → Int32} (hr : r < 97) (ht : t < 97) (G : zq_G r t a1 a2 a3 a4 a5 a9) {p : Nat} (hp : p < 128)
    (H : ∀ a4' a5' a6' a7' a8', zq_G r t a1 a2 a3 a4' a5' a9 → (a4' p = 2 ∧ a5' p = nI (zq_V r t p)) → (∀ q, q < 128 → a4 q = 2 → a5' q = nI (zq_V r t q)) → post 1 (a1, a2, a3, a4', a5', a6', a7', a8', a9)) : wpX_force post (a1, a2, a3, a4, a5, a6, a7, a8, a9) (nI p) := by
  have n20 : ¬ (2 : Int32) = 0 := by decide
  have n10 : ¬ (1 : Int32) = 0 := by decide
  have n12 : ¬ (1 : Int32) = 2 := by decide
  refine ⟨pk_in p 128 hp, ?_⟩
  rw [nI_clamp (show p < 2 ^ 31 by omega)]
  have hrk := zq_rkle p hp
  have hcn := zq_cntle p hp
  rcases G.2 p hp with h0 | ⟨h2, h5⟩
  · refine br_t h0 ⟨pk_in 0 128 (by decide), nm_r (e' := upd a6 0 (nI p)) (by rfl) ⟨pk_in 0 128 (by decide), nm_r (e' := upd a7 0 (nI 0)) (by rfl) ⟨pk_in p 128 hp, nm_r (e' := upd a4 p 1) (by rw [nI_clamp (by omega)]) ⟨20001, ?_⟩⟩⟩⟩
    have hphi : zq_phi (upd a4 p 1) 128 + 36 = zq_phi a4 128 := zq_phi_in h0 n10 128 hp
    have hle := zq_phi_le a4 128
    have main : zq_R post (nI p) a1 a2 a3 a9 (nI 0) 0 (upd a4 p 1) a5 (upd a6 0 (nI p)) (upd a7 0 (nI 0)) a8 := by
      refine zq_B G.1 hr ht (zq_rk p + 1) p (by omega) hp (zq_cnt p) 0 (by omega) 0 0 _ a5 _ _ a8 (by omega) pk_us pk_us pk_us (fun q hq hl => ?_) (fun q hq h2 => ?_) (fun j hj => absurd hj (by omega)) (by omega) ?_
      · rw [pk_un (fun e => by rw [e] at hl; omega)]
        rcases G.2 q hq with g | g
        · exact Or.inl g
        · exact Or.inr g.1
      · by_cases e : q = p
        · rw [e, pk_us] at h2
          exact absurd h2 n12
        · rw [pk_un e] at h2
          rcases G.2 q hq with g | g
          · rw [g] at h2
            exact absurd h2.symm n20
          · exact g.2
      · intro st' a4' a5' a6' a7' a8' g1 g2 g3 g4 g5 g6 g7 g8
        refine zq_stX hp (by omega) g1 (H a4' a5' a6' a7' a8' ⟨G.1, fun q hq => ?_⟩ ⟨g1, g5 p hp g1⟩ (fun q hq h2 => g5 q hq (g3 q hq (by rw [pk_un (fun e => by rw [e, h0] at h2; exact absurd h2.symm n20)]; exact h2))))
        have e : a4' q = 0 ∨ a4' q = 2 := by
          by_cases e : q = p
          · rw [e]; exact Or.inr g1
          · by_cases e2 : zq_rk q < zq_rk p
            · exact g4 q hq e2
            · rw [g2 q hq e (by omega), pk_un e]
              rcases G.2 q hq with g | g
              · exact Or.inl g
              · exact Or.inr g.1
        rcases e with e | e
        · exact Or.inl e
        · exact Or.inr ⟨e, g5 q hq e⟩
    exact main
  · have K : ∀ q, q < 128 → a4 q = 2 → a5 q = nI (zq_V r t q) := fun q hq e => by
      rcases G.2 q hq with g | g
      · rw [g] at e
        exact absurd e.symm n20
      · exact g.2
    exact br_f (by rw [h2]; exact n20) ⟨pk_in p 128 hp, br_t h2 (H a4 a5 a6 a7 a8 G ⟨h2, h5⟩ K)⟩
end
section
/-- reduced, as the class and the law compute it -/
def zq_rd (x : Int32) : Int32 := if 0 ≤ x - x / 97 * 97 then x - x / 97 * 97 else (x - x / 97 * 97) + 97
theorem zq_rd_ok (x : Int32) : ∃ r : Nat, r < 97 ∧ zq_rd x = nI r := by
  have e97 : (97 : Int32).toInt = 97 := by decide
  have e0 : (0 : Int32).toInt = 0 := by decide
  have h := rem_toInt x 97
  have b := tmod_bounds (a := x.toInt) (M := 97) (by decide)
  rw [e97] at h
  unfold zq_rd
  generalize x - x / 97 * 97 = y at h ⊢
  rw [← h] at b
  by_cases c : 0 ≤ y
  · rw [if_pos c]
    have c' : 0 ≤ y.toInt := by
      have := Int32.le_iff_toInt_le.mp c
      rwa [e0] at this
    obtain ⟨j, hj, e⟩ := nI_of (x := y) (by
      intro z
      have := Int32.lt_iff_toInt_lt.mp z
      rw [e0] at this
      omega)
    refine ⟨j, ?_, e⟩
    rw [e, nI_toInt hj] at b
    omega
  · rw [if_neg c]
    have c' : y.toInt < 0 := by
      have h1 : ¬ (0 : Int32).toInt ≤ y.toInt := fun z => c (Int32.le_iff_toInt_le.mpr z)
      rw [e0] at h1
      omega
    have s : (y + 97).toInt = y.toInt + 97 := by
      rw [Int32.toInt_add, e97]
      exact Int.bmod_eq_of_le (by omega) (by omega)
    obtain ⟨j, hj, e⟩ := nI_of (x := y + 97) (by
      intro z
      have := Int32.lt_iff_toInt_lt.mp z
      rw [e0, s] at this
      omega)
    refine ⟨j, ?_, e⟩
    rw [e, nI_toInt hj] at s
    omega
theorem zq_rd_n {n : Nat} (h : n < 97) : zq_rd (nI n) = nI n := by
  unfold zq_rd
  rw [zq_rem (by omega), Nat.mod_eq_of_lt h, if_pos (nI_pos' (by omega))]
theorem zq_redX {post : Int32 → Prop} {x : Int32} (H : post (zq_rd x)) : wpX_reduced post () x := by
  unfold zq_rd at H
  refine ⟨by decide, nm_e (br_c (fun c => ?_) (fun c => ?_))⟩
  · rwa [if_pos c] at H
  · rwa [if_neg c] at H
theorem zq_redL {post : Int32 → Prop} {x : Int32} (H : post (zq_rd x)) : wpL_reduced post () x := by
  unfold zq_rd at H
  refine ⟨by decide, br_c (fun c => ⟨by decide, ?_⟩) (fun c => ⟨by decide, ?_⟩)⟩
  · rwa [if_pos c] at H
  · rwa [if_neg c] at H
theorem zq_isS {post : Int32 → Prop} {s : Nat} (hs : s < 8) (H : post 1) : wpX_isSeries post () (nI s) :=
  br_f (nI_pos (by omega)) (br_f (nI_nlt (a := 7) (b := s) (by omega) (by decide)) H)
theorem zq_init {post : St2 → Prop} {mc ms : Nat} (hc : 9 ≤ mc) (hs : 649 ≤ ms) (H : ∀ a9, a9 1 = nI 1 → post (fun _ => 0, fun _ => 0, fun _ => 0, fun _ => 0, fun _ => 0, fun _ => 0, fun _ => 0, fun _ => 0, a9)) : wpX_init post mc ms () := by
  refine ⟨by omega, by omega, by omega, by omega, by omega, by omega, by omega, by omega, by omega, by omega, by omega, by omega, by omega, by omega, by omega, by omega, by omega, by omega, nm_e ?_⟩
  refine pk_loop (fun n i s => wX_init_89 post mc ms 9 649 n (nI i) (fun _ => 0) (fun _ => 0) (fun _ => 0) (fun _ => 0) (fun _ => 0) (fun _ => 0) (fun _ => 0) (fun _ => 0) s) (fun i s => 2 ≤ i ∧ s 1 = nI 1) 97 2 _ (by decide) ⟨by decide, pk_us⟩ ?_ ?_
  · intro n s h
    exact pk_le 97 97 (fun _ => H s h.2) (fun z => absurd z (by decide))
  · intro n i s hi h hw
    have hi2 := h.1
    have e : (97 : Int32) - 97 / nI i * nI i = nI (97 % i) := pk_rem (a := 97) (by decide) (by omega) (by omega)
    have l : 97 % i < i := Nat.mod_lt _ (by omega)
    refine pk_le 97 i (fun z => absurd z (by omega)) (fun _ => ⟨nI_ne0 (by omega) (by omega), nI_ne0 (by omega) (by omega), pk_in (97 % i) 97 (by omega) e, by decide, pk_in i 97 hi, nm_e (nm_r (nI_1 i) (hw _ ⟨by omega, ?_⟩))⟩)
    rw [nI_clamp (by omega), pk_un (by omega)]
    exact h.2
theorem zq_d131 {post : Int32 → St2 → Prop} {x6 : Int32} {a1 a2 a3 a4 a5 a6 a7 a8 a9 : Nat → Int32} (H : ∀ a4', (∀ p, p < 128 → a4' p = 0) → post x6 (a1, a2, a3, a4', a5, a6, a7, a8, a9)) :
    ∃ n, wX_define_131 post x6 n 0 a1 a2 a3 a4 a5 a6 a7 a8 a9 := by
  refine pk_loop (fun n i s => wX_define_131 post x6 n (nI i) a1 a2 a3 s a5 a6 a7 a8 a9) (fun i s => ∀ j, j < i → s j = 0) 128 0 a4 (by decide) (fun j hj => absurd hj (by omega)) ?_ ?_
  · intro n s h
    exact pk_le 128 128 (fun _ => H s h) (fun z => absurd z (by decide))
  · intro n i s hi h hw
    refine pk_le 128 i (fun z => absurd z (by omega)) (fun _ => ⟨pk_in i 128 hi, nm_e (nm_r (nI_1 i) (hw _ (fun j hj => ?_)))⟩)
    rw [nI_clamp (by omega)]
    by_cases e : j = i
    · rw [e, pk_us]
    · rw [pk_un e]
      exact h j (by omega)
theorem zq_d106a {post : Int32 → St2 → Prop} {s : Nat} {x4 x6 z0 : Int32} {a1 a2 a3 a4 a5 a6 a7 a8 a9 : Nat → Int32} (hs : s < 8)
    (H : ∀ a4', (∀ p, p < 128 → a4' p = 0) → post x6 (a1, upd a2 s z0, upd a3 s (zq_rd x4), a4', a5, a6, a7, a8, a9)) :
    wX_define_106 post (nI s) x4 0 x6 z0 (nI s) a1 a2 a3 a4 a5 a6 a7 a8 a9 :=
  ⟨pk_in s 8 hs, nm_r (e' := upd a2 s z0) (by rw [nI_clamp (by omega)]) (br_t rfl (zq_redX ⟨pk_in s 8 hs, nm_r (e' := upd a3 s (zq_rd x4)) (by rw [nI_clamp (by omega)]) (zq_d131 H)⟩))⟩
theorem zq_d106b {post : Int32 → St2 → Prop} {s : Nat} {x4 x6 z0 : Int32} {a1 a2 a3 a4 a5 a6 a7 a8 a9 : Nat → Int32} (hs : s < 8)
    (H : ∀ a4', (∀ p, p < 128 → a4' p = 0) → post x6 (a1, upd a2 s z0, upd a3 s x4, a4', a5, a6, a7, a8, a9)) :
    wX_define_106 post (nI s) x4 1 x6 z0 (nI s) a1 a2 a3 a4 a5 a6 a7 a8 a9 :=
  ⟨pk_in s 8 hs, nm_r (e' := upd a2 s z0) (by rw [nI_clamp (by omega)]) (br_f (by decide) ⟨pk_in s 8 hs, nm_r (e' := upd a3 s x4) (by rw [nI_clamp (by omega)]) (zq_d131 H)⟩)⟩
/-- define with a kind of no part (0, 1) -/
theorem zq_def0 {post : Int32 → St2 → Prop} {s k : Nat} {a b : Int32} {a1 a2 a3 a4 a5 a6 a7 a8 a9 : Nat → Int32} (hs : s < 8) (hk : k ≤ 1)
    (H : ∀ a4', (∀ p, p < 128 → a4' p = 0) → post (a1 s) (upd a1 s (nI k), upd a2 s 0, upd a3 s (zq_rd b), a4', a5, a6, a7, a8, a9)) :
    wpX_define post (a1, a2, a3, a4, a5, a6, a7, a8, a9) (nI s) (nI k) a b := by
  have ne : ∀ m, m ≤ 9 → 1 < m → ¬ nI k = nI m := fun m h9 h1 z => by
    rw [nI_eq (by omega) (by omega)] at z
    omega
  unfold wpX_define
  dsimp only
  refine zq_isS hs ?_
  refine (br_f (by decide) (br_f (nI_pos (by omega)) (br_t (nI_le (b := 9) (by omega) (by decide)) (br_t (nI_le (b := 1) hk (by decide)) ?_))))
  refine br_f (ne 2 (by decide) (by decide)) (br_f (ne 3 (by decide) (by decide)) (br_f (ne 9 (by decide) (by decide)) (br_t rfl ⟨pk_in s 8 hs, nm_r (e' := a1 s) (by rw [nI_clamp (by omega)]) ⟨pk_in s 8 hs, nm_r (e' := upd a1 s (nI k)) (by rw [nI_clamp (by omega)]) (br_t (nI_le (b := 1) hk (by decide)) ?_)⟩⟩)))
  exact zq_d106a hs H
/-- define with one part and a number -/
theorem zq_def1 {post : Int32 → St2 → Prop} {s k a : Nat} {b : Int32} {a1 a2 a3 a4 a5 a6 a7 a8 a9 : Nat → Int32} (hs : s < 8) (hk : 4 ≤ k) (hk2 : k ≤ 8) (ha : a < 8)
    (H : ∀ a4', (∀ p, p < 128 → a4' p = 0) → post (a1 s) (upd a1 s (nI k), upd a2 s (nI a), upd a3 s (zq_rd b), a4', a5, a6, a7, a8, a9)) :
    wpX_define post (a1, a2, a3, a4, a5, a6, a7, a8, a9) (nI s) (nI k) (nI a) b := by
  have ne : ∀ m, m ≠ k → m ≤ 9 → ¬ nI k = nI m := fun m h1 h9 z => by
    rw [nI_eq (by omega) (by omega)] at z
    omega
  unfold wpX_define
  dsimp only
  refine zq_isS hs ?_
  refine (br_f (by decide) (br_f (nI_pos (by omega)) (br_t (nI_le (b := 9) (by omega) (by decide)) (br_f (nI_ge (a := 1) (by omega) (by omega)) ?_))))
  refine zq_isS ha (br_f (by decide) ?_)
  refine br_f (ne 2 (by omega) (by decide)) (br_f (ne 3 (by omega) (by decide)) (br_f (ne 9 (by omega) (by decide)) (br_t rfl ⟨pk_in s 8 hs, nm_r (e' := a1 s) (by rw [nI_clamp (by omega)]) ⟨pk_in s 8 hs, nm_r (e' := upd a1 s (nI k)) (by rw [nI_clamp (by omega)]) (br_f (nI_ge (a := 1) (by omega) (by omega)) ?_)⟩⟩)))
  exact zq_d106a hs H
/-- define with two parts -/
theorem zq_def2 {post : Int32 → St2 → Prop} {s k a b : Nat} {a1 a2 a3 a4 a5 a6 a7 a8 a9 : Nat → Int32} (hs : s < 8) (hk : k = 2 ∨ k = 3 ∨ k = 9) (ha : a < 8) (hb : b < 8)
    (H : ∀ a4', (∀ p, p < 128 → a4' p = 0) → post (a1 s) (upd a1 s (nI k), upd a2 s (nI a), upd a3 s (nI b), a4', a5, a6, a7, a8, a9)) :
    wpX_define post (a1, a2, a3, a4, a5, a6, a7, a8, a9) (nI s) (nI k) (nI a) (nI b) := by
  have F : wX_define_53 post (nI s) (nI k) (nI a) (nI b) a1 a2 a3 a4 a5 a6 a7 a8 a9 := by
    refine br_f (by decide) (zq_isS hb (br_f (by decide) ?_))
    refine ⟨pk_in s 8 hs, nm_r (e' := a1 s) (by rw [nI_clamp (by omega)]) ⟨pk_in s 8 hs, nm_r (e' := upd a1 s (nI k)) (by rw [nI_clamp (by omega)]) (br_f (nI_ge (a := 1) (by omega) (by omega)) ?_)⟩⟩
    exact zq_d106b hs H
  unfold wpX_define
  dsimp only
  refine zq_isS hs ?_
  refine (br_f (by decide) (br_f (nI_pos (by omega)) (br_t (nI_le (b := 9) (by omega) (by decide)) (br_f (nI_ge (a := 1) (by omega) (by omega)) ?_))))
  refine zq_isS ha (br_f (by decide) ?_)
  refine br_c (fun _ => F) (fun c2 => br_c (fun _ => F) (fun c3 => br_c (fun _ => F) (fun c9 => ?_)))
  rcases hk with e | e | e
  · exact absurd (congrArg nI e) c2
  · exact absurd (congrArg nI e) c3
  · exact absurd (congrArg nI e) c9
theorem zq_16s (s n : Nat) : (16 : Int32) * nI s + nI n = nI (16 * s + n) := by
  rw [show (16 * nI s : Int32) = nI (16 * s) from pk_mul 16 s, nI_add]
theorem zq_coeff {post : Int32 → St2 → Prop} {r t : Nat} {a1 a2 a3 a4 a5 a6 a7 a8 a9 : Nat → Int32} (hr : r < 97) (ht : t < 97) (G : zq_G r t a1 a2 a3 a4 a5 a9) {s n : Nat} (hs : s < 8) (hn : n < 16)
    (H : ∀ a4' a5' a6' a7' a8', zq_G r t a1 a2 a3 a4' a5' a9 → post (nI (zq_V r t (16 * s + n))) (a1, a2, a3, a4', a5', a6', a7', a8', a9)) : wpX_coefficient post (a1, a2, a3, a4, a5, a6, a7, a8, a9) (nI s) (nI n) := by
  unfold wpX_coefficient
  dsimp only
  refine zq_isS hs ?_
  refine (br_f (by decide) (br_f (nI_pos (by omega)) (br_t (nI_lt (b := 16) hn (by decide)) ?_)))
  rw [zq_16s]
  refine zq_force hr ht G (by omega) (fun a4' a5' a6' a7' a8' G' hv _ => br_f (by decide) ⟨pk_in (16 * s + n) 128 (by omega), ?_⟩)
  show post (a5' (nI (16 * s + n)).toNatClampNeg) (a1, a2, a3, a4', a5', a6', a7', a8', a9)
  rw [nI_clamp (by omega), hv.2]
  exact H a4' a5' a6' a7' a8' G'
theorem zq_known {post : Int32 → St2 → Prop} {r t : Nat} {a1 a2 a3 a4 a5 a6 a7 a8 a9 : Nat → Int32} (hr : r < 97) (ht : t < 97) (G : zq_G r t a1 a2 a3 a4 a5 a9) {s : Nat} (hs : s < 8)
    (H : ∀ a4' a5' a6' a7' a8', zq_G r t a1 a2 a3 a4' a5' a9 → post 16 (a1, a2, a3, a4', a5', a6', a7', a8', a9)) : wpX_known post (a1, a2, a3, a4, a5, a6, a7, a8, a9) (nI s) := by
  unfold wpX_known
  dsimp only
  refine zq_isS hs ?_
  refine br_f (by decide) ?_
  refine pk_loop (σ := (Nat → Int32) × (Nat → Int32) × (Nat → Int32) × (Nat → Int32) × (Nat → Int32)) (fun n i s' => wX_known_11 post (nI s) n (nI i) a1 a2 a3 s'.1 s'.2.1 s'.2.2.1 s'.2.2.2.1 s'.2.2.2.2 a9) (fun i s' => zq_G r t a1 a2 a3 s'.1 s'.2.1 a9) 16 0 (a4, a5, a6, a7, a8) (by decide) G ?_ ?_
  · intro n s' h
    exact pk_le 16 16 (fun _ => H _ _ _ _ _ h) (fun z => absurd z (by decide))
  · intro n i s' hi h hw
    refine pk_le 16 i (fun z => absurd z (by omega)) (fun _ => ?_)
    rw [zq_16s]
    exact zq_force hr ht h (by omega) (fun b4 b5 b6 b7 b8 G' hv _ => br_f (by decide) (nm_r (nI_1 i) (hw (b4, b5, b6, b7, b8) G')))
theorem zq_agree {post : Int32 → St2 → Prop} {r t : Nat} {a1 a2 a3 a4 a5 a6 a7 a8 a9 : Nat → Int32} (hr : r < 97) (ht : t < 97) (G : zq_G r t a1 a2 a3 a4 a5 a9)
    (H : ∀ a4' a5' a6' a7' a8', zq_G r t a1 a2 a3 a4' a5' a9 → post 16 (a1, a2, a3, a4', a5', a6', a7', a8', a9)) : wpX_agreeing post (a1, a2, a3, a4, a5, a6, a7, a8, a9) (nI 5) (nI 0) := by
  unfold wpX_agreeing
  dsimp only
  refine zq_isS (s := 5) (by decide) ?_
  refine br_f (by decide) ?_
  refine zq_isS (s := 0) (by decide) ?_
  refine br_f (by decide) ?_
  refine pk_loop (σ := (Nat → Int32) × (Nat → Int32) × (Nat → Int32) × (Nat → Int32) × (Nat → Int32)) (fun n i s' => wX_agreeing_18 post (nI 5) (nI 0) n (nI i) a1 a2 a3 s'.1 s'.2.1 s'.2.2.1 s'.2.2.2.1 s'.2.2.2.2 a9) (fun i s' => zq_G r t a1 a2 a3 s'.1 s'.2.1 a9) 16 0 (a4, a5, a6, a7, a8) (by decide) G ?_ ?_
  · intro n s' h
    exact pk_le 16 16 (fun _ => H _ _ _ _ _ h) (fun z => absurd z (by decide))
  · intro n i s' hi h hw
    refine pk_le 16 i (fun z => absurd z (by omega)) (fun _ => ?_)
    rw [zq_16s, zq_16s]
    refine zq_force hr ht h (by omega) (fun b4 b5 b6 b7 b8 G' hv _ => br_f (by decide) ?_)
    refine zq_force hr ht G' (by omega) (fun d4 d5 d6 d7 d8 G2 hv2 hk2 => br_f (by decide) ⟨pk_in (16 * 5 + i) 128 (by omega), pk_in (16 * 0 + i) 128 (by omega), br_t ?_ (nm_r (nI_1 i) (hw (d4, d5, d6, d7, d8) G2))⟩)
    rw [nI_clamp (by omega), nI_clamp (by omega), hv2.2, hk2 _ (by omega) hv.1]
    show nI (zq_V r t (80 + i)) = nI (zq_V r t (16 * 0 + i))
    rw [show 16 * 0 + i = i by omega, zq_V5 hi, zq_V0 hi]
/-- sums of powers -/
def zq_sm (r lo : Nat) : Nat → Nat
  | 0 => 0
  | k + 1 => zq_sm r lo k + r ^ (lo + k) % 97
theorem zq_sm_le (r lo k : Nat) : zq_sm r lo k ≤ 97 * k := by
  induction k with
  | zero => exact Nat.le_refl _
  | succ k ih =>
    unfold zq_sm
    have := Nat.mod_lt (r ^ (lo + k)) (show 97 > 0 by decide)
    omega
theorem zq_sum {post : Int32 → St2 → Prop} {r t : Nat} {a1 a2 a3 a4 a5 a6 a7 a8 a9 : Nat → Int32} (hr : r < 97) (ht : t < 97) (G : zq_G r t a1 a2 a3 a4 a5 a9) {i j : Nat} (hij : i ≤ j) (hj : j < 16)
    (H : ∀ a4' a5' a6' a7' a8', zq_G r t a1 a2 a3 a4' a5' a9 → post (nI (zq_sm r i (j + 1 - i) % 97)) (a1, a2, a3, a4', a5', a6', a7', a8', a9)) : wpX_sum post (a1, a2, a3, a4, a5, a6, a7, a8, a9) (nI 4) (nI i) (nI j) := by
  unfold wpX_sum
  dsimp only
  refine zq_isS (s := 4) (by decide) ?_
  refine (br_f (by decide) (br_f (nI_pos (by omega)) (br_f (nI_nlt hij (by omega)) (br_t (nI_lt (b := 16) hj (by decide)) ?_))))
  refine pk_loop (σ := Int32 × (Nat → Int32) × (Nat → Int32) × (Nat → Int32) × (Nat → Int32) × (Nat → Int32)) (fun n k s' => wX_sum_33 post (nI 4) (nI j) n s'.1 (nI k) a1 a2 a3 s'.2.1 s'.2.2.1 s'.2.2.2.1 s'.2.2.2.2.1 s'.2.2.2.2.2 a9) (fun k s' => i ≤ k ∧ s'.1 = nI (zq_sm r i (k - i) % 97) ∧ zq_G r t a1 a2 a3 s'.2.1 s'.2.2.1 a9) (j + 1) i (0, a4, a5, a6, a7, a8) (by omega) ⟨Nat.le_refl _, by rw [Nat.sub_self]; rfl, G⟩ ?_ ?_
  · intro n s' h
    have e := H s'.2.1 s'.2.2.1 s'.2.2.2.1 s'.2.2.2.2.1 s'.2.2.2.2.2 h.2.2
    rw [← h.2.1] at e
    exact pk_lt j (j + 1) (fun _ => e) (fun z => absurd z (by omega))
  · intro n k s' hk h hw
    have h1 := h.1
    refine pk_lt j k (fun z => absurd z (by omega)) (fun _ => ?_)
    rw [zq_16s]
    refine zq_force hr ht h.2.2 (by omega) (fun b4 b5 b6 b7 b8 G' hv _ => br_f (by decide) ⟨pk_in (16 * 4 + k) 128 (by omega), by decide, nm_r (e' := nI (zq_sm r i (k + 1 - i) % 97)) ?_ (nm_r (nI_1 k) (hw (nI (zq_sm r i (k + 1 - i) % 97), b4, b5, b6, b7, b8) ⟨by omega, rfl, G'⟩))⟩)
    have l1 : zq_sm r i (k - i) % 97 < 97 := Nat.mod_lt _ (by decide)
    have l2 : r ^ k % 97 < 97 := Nat.mod_lt _ (by decide)
    have e : zq_V r t (16 * 4 + k) = r ^ k % 97 := zq_V4 (by omega)
    rw [nI_clamp (by omega), hv.2, h.2.1, e, nI_add, zq_rem (by omega), show k + 1 - i = (k - i) + 1 by omega]
    show nI ((zq_sm r i (k - i) % 97 + r ^ k % 97) % 97) = nI ((zq_sm r i (k - i) + r ^ (i + (k - i)) % 97) % 97)
    rw [show i + (k - i) = k by omega, Nat.mod_add_mod]
theorem zq_sumN {post : Int32 → St2 → Prop} {a1 a2 a3 a4 a5 a6 a7 a8 a9 : Nat → Int32} {i j : Nat} (hij : j < i) (hi : i < 16)
    (H : post (-2) (a1, a2, a3, a4, a5, a6, a7, a8, a9)) : wpX_sum post (a1, a2, a3, a4, a5, a6, a7, a8, a9) (nI 4) (nI i) (nI j) := by
  unfold wpX_sum
  dsimp only
  refine zq_isS (s := 4) (by decide) ?_
  exact br_f (by decide) (br_f (nI_pos (by omega)) (br_t (nI_lt hij (by omega)) H))
end
section
/-- the queue of needs: m places that are in C -/
def zq_N (C : Nat → Prop) (m : Nat) (a6 : Nat → Int32) : Prop := m ≤ 128 ∧ ∀ j, j < m → ∃ q, q < 128 ∧ C q ∧ a6 j = nI q
theorem zq_N_add {C : Nat → Prop} {m q : Nat} {a6 : Nat → Int32} (h : zq_N C m a6) (hm : m < 128) (hq : q < 128) (hc : C q) : zq_N C (m + 1) (upd a6 m (nI q)) := by
  refine ⟨by omega, fun j hj => ?_⟩
  by_cases e : j = m
  · exact ⟨q, hq, hc, by rw [e, pk_us]⟩
  · rw [pk_un e]
    exact h.2 j (by omega)
theorem zq_N_1 {C : Nat → Prop} {p : Nat} {a6 : Nat → Int32} (hp : p < 128) (hc : C p) : zq_N C 1 (upd a6 0 (nI p)) :=
  ⟨by decide, fun j hj => ⟨p, hp, hc, by rw [show j = 0 by omega, pk_us]⟩⟩
theorem zq_n75s {post : Int32 → St2 → Prop} {J : Int32 → Int32 → (Nat → Int32) → (Nat → Int32) → (Nat → Int32) → (Nat → Int32) → (Nat → Int32) → (Nat → Int32) → (Nat → Int32) → (Nat → Int32) → (Nat → Int32) → Prop}
    {r t : Nat} {a1 a2 a3 a4 a5 a6 a7 a8 a9 : Nat → Int32} (T : zq_T r t a1 a2 a3 a9) (C : Nat → Prop) {o k n m i q : Nat} (ho : o < 128) (hk : k < m) (hN : zq_N C m a6) (hi : i < 32) (hq : q < 128) (h6 : a6 k = nI q)
    (hc : i < zq_cnt q → C (zq_nd q i)) (h1 : i < zq_cnt q → zq_nd q i = o → post 1 (a1, a2, a3, a4, a5, a6, a7, a8, a9))
    (hw : ∀ m' a6' a7', k < m' → zq_N C m' a6' → a6' k = a6 k → wX_needs_75 post J (nI o) (nI k) n (nI m') (nI (i + 1)) a1 a2 a3 a4 a5 a6' a7' a8 a9) :
    wX_needs_75 post J (nI o) (nI k) (n + 1) (nI m) (nI i) a1 a2 a3 a4 a5 a6 a7 a8 a9 := by
  have hm := hN.1
  refine br_f (nI_ge (b := 32) hi (by decide)) ⟨pk_in k 128 (by omega), ?_⟩
  rw [zq_at (by omega) h6]
  refine zq_need T (by omega) q hq (fun z => ?_) (fun z => ?_)
  · have hn := (zq_ndok q hq z).1
    refine pk_eq (zq_nd q i) o (fun e => h1 z e) (fun e => br_f (zq_ne1 (by omega)) ⟨pk_in (zq_nd q i) 128 hn, br_c (fun c => ?_) (fun c => nm_r (nI_1 i) (hw m a6 a7 hk hN rfl))⟩)
    refine pk_le 128 m (fun g => nm_r (nI_1 i) (hw m a6 a7 hk hN rfl)) (fun g => ⟨pk_in (zq_nd q i) 128 hn, nm_e ⟨pk_in m 128 g, nm_r (e' := upd a6 m (nI (zq_nd q i))) (by rw [nI_clamp (by omega)]) (nm_r (nI_1 m) (nm_r (nI_1 i) (hw (m + 1) _ _ (by omega) (zq_N_add hN g hn (hc z)) (pk_un (by omega)))))⟩⟩)
  · exact br_f (fun e => zq_ne1 (q := o) (by omega) e.symm) (br_t rfl (nm_r (nI_1 i) (hw m a6 a7 hk hN rfl)))
theorem zq_n26 {post : Int32 → St2 → Prop} {a1 a2 a3 a4 a5 a6 a7 a8 a9 : Nat → Int32} {p o : Nat} (hp : p < 128) (ho : o < 128)
    (H : ∀ a7', ∃ fu, wX_needs_58 post (nI o) fu (nI 1) (nI 0) a1 a2 a3 a4 a5 (upd a6 0 (nI p)) a7' a8 a9) : wpX_needs post (a1, a2, a3, a4, a5, a6, a7, a8, a9) (nI p) (nI o) := by
  refine br_f (nI_pos (by omega)) (br_f (nI_ge (b := 128) hp (by decide)) (br_f (nI_pos (by omega)) (br_t (nI_lt (b := 128) ho (by decide)) ?_)))
  refine pk_loop (fun n i s => wX_needs_26 post (nI p) (nI o) n (nI i) a1 a2 a3 a4 a5 a6 s a8 a9) (fun _ _ => True) 128 0 a7 (by decide) trivial ?_ ?_
  · intro n s _
    exact pk_le 128 128 (fun _ => nm_e (H s)) (fun z => absurd z (by decide))
  · intro n i s hi _ hw
    exact pk_le 128 i (fun z => absurd z (by omega)) (fun _ => ⟨pk_in i 128 hi, nm_e (nm_r (nI_1 i) (hw _ trivial))⟩)
/-- needs answers 0: a set that is closed under needs and never needs o -/
theorem zq_needs0 {post : Int32 → St2 → Prop} {r t : Nat} {a1 a2 a3 a4 a5 a6 a7 a8 a9 : Nat → Int32} (T : zq_T r t a1 a2 a3 a9) (C : Nat → Prop) {p o : Nat} (hp : p < 128) (ho : o < 128) (hCp : C p)
    (hC : ∀ q i, q < 128 → C q → i < zq_cnt q → C (zq_nd q i) ∧ zq_nd q i ≠ o)
    (H : ∀ a6' a7', post 0 (a1, a2, a3, a4, a5, a6', a7', a8, a9)) : wpX_needs post (a1, a2, a3, a4, a5, a6, a7, a8, a9) (nI p) (nI o) := by
  refine zq_n26 hp ho (fun a7' => ?_)
  refine pk_loop (σ := Nat × (Nat → Int32) × (Nat → Int32)) (fun n k s => wX_needs_58 post (nI o) n (nI s.1) (nI k) a1 a2 a3 a4 a5 s.2.1 s.2.2 a8 a9) (fun k s => zq_N C s.1 s.2.1) 128 0 (1, upd a6 0 (nI p), a7') (by decide) (zq_N_1 hp hCp) ?_ ?_
  · intro n s h
    exact pk_le 128 128 (fun _ => H s.2.1 s.2.2) (fun z => absurd z (by decide))
  · intro n k s hk h hw
    have hm := h.1
    refine pk_le 128 k (fun z => absurd z (by omega)) (fun _ => pk_le s.1 k (fun _ => H s.2.1 s.2.2) (fun hkm => ?_))
    refine pk_loop (σ := Nat × (Nat → Int32) × (Nat → Int32)) (fun n' i s' => wX_needs_75 post (wX_needs_58 post (nI o) n) (nI o) (nI k) n' (nI s'.1) (nI i) a1 a2 a3 a4 a5 s'.2.1 s'.2.2 a8 a9) (fun i s' => k < s'.1 ∧ zq_N C s'.1 s'.2.1) 32 0 s (by decide) ⟨hkm, h⟩ ?_ ?_
    · intro n' s' h'
      exact pk_le 32 32 (fun _ => nm_r (nI_1 k) (hw s' h'.2)) (fun z => absurd z (by decide))
    · intro n' i s' hi h' hw'
      obtain ⟨q, hq, hcq, eq⟩ := h'.2.2 k h'.1
      exact zq_n75s T C ho h'.1 h'.2 hi hq eq (fun z => (hC q i hq hcq z).1) (fun z e => absurd e (hC q i hq hcq z).2) (fun m' a6' a7' g1 g2 _ => hw' (m', a6', a7') ⟨g1, g2⟩)
/-- needs answers 1: o is a need of p itself -/
theorem zq_needs1 {post : Int32 → St2 → Prop} {r t : Nat} {a1 a2 a3 a4 a5 a6 a7 a8 a9 : Nat → Int32} (T : zq_T r t a1 a2 a3 a9) {p o i0 : Nat} (hp : p < 128) (ho : o < 128) (hi0 : i0 < zq_cnt p) (he : zq_nd p i0 = o)
    (H : ∀ a6' a7', post 1 (a1, a2, a3, a4, a5, a6', a7', a8, a9)) : wpX_needs post (a1, a2, a3, a4, a5, a6, a7, a8, a9) (nI p) (nI o) := by
  have hc := zq_cntle p hp
  refine zq_n26 hp ho (fun a7' => ⟨0 + 1, ?_⟩)
  refine br_f (by decide) (br_f (by decide) ?_)
  refine pk_loop (σ := Nat × (Nat → Int32) × (Nat → Int32)) (fun n' i s' => wX_needs_75 post (wX_needs_58 post (nI o) 0) (nI o) (nI 0) n' (nI s'.1) (nI i) a1 a2 a3 a4 a5 s'.2.1 s'.2.2 a8 a9) (fun i s' => 0 < s'.1 ∧ zq_N (fun _ => True) s'.1 s'.2.1 ∧ s'.2.1 0 = nI p) i0 0 (1, upd a6 0 (nI p), a7') (by omega) ⟨Nat.one_pos, zq_N_1 hp trivial, pk_us (f := a6) (k := 0) (x := nI p)⟩ ?_ ?_
  · intro n' s' h'
    refine br_f (nI_ge (b := 32) (by omega) (by decide)) ⟨pk_in 0 128 (by decide), ?_⟩
    have e6 : s'.2.1 (nI 0).toNatClampNeg = nI p := zq_at (by decide) h'.2.2
    rw [e6]
    exact zq_need T (by omega) p hp (fun z => br_t (by rw [he]) (H s'.2.1 s'.2.2)) (fun z => absurd z (by omega))
  · intro n' i s' hi h' hw'
    exact zq_n75s T (fun _ => True) ho h'.1 h'.2.1 (by omega) hp h'.2.2 (fun _ => trivial) (fun _ _ => H s'.2.1 s'.2.2) (fun m' a6' a7' g1 g2 g3 => hw' (m', a6', a7') ⟨g1, g2, by rw [← h'.2.2]; exact g3⟩)
/-- what place 64 + low may need -/
def zq_C (low q : Nat) : Prop := q ≤ 64 + low ∧ (q < 64 → q % 16 ≤ low)
theorem zq_Cc {low : Nat} (hl : low < 16) : ∀ q, q < 128 → ∀ i, zq_C low q → i < zq_cnt q → zq_C low (zq_nd q i) ∧ zq_nd q i ≠ 64 + low := by
  unfold zq_C
  refine zq_cases (fun n h i => ?_) (fun n h i => ?_) (fun n h i => ?_) (fun n h i => ?_) (fun n h i => ?_) (fun n h i => ?_) (fun n h i => ?_) (fun n h i => ?_)
  · rw [zq_cnt0 h]; intro _ hi; omega
  · rw [zq_cnt1 h]; intro _ hi; omega
  · rw [zq_cnt2 h, zq_nd2 h]; intro hc hi; omega
  · rw [zq_cnt3 h, zq_nd3 h]
    intro hc hi
    by_cases e : i = 0
    · rw [if_pos e]; omega
    · rw [if_neg e]; omega
  · rw [zq_cnt4 h, zq_nd4 h]
    intro hc hi
    by_cases e : i ≤ n
    · rw [if_pos e]; omega
    · rw [if_neg e]; omega
  · intro hc; omega
  · intro hc; omega
  · intro hc; omega
end
section
theorem zq_l360 {post : Int32 → St0 → Prop} {mc ms kc ks r t low high : Nat} {z : Int32} {a1 a2 a3 a4 a5 a6 a7 a8 a9 : Nat → Int32} (hr : r < 97) (ht : t < 97) (G : zq_G r t a1 a2 a3 a4 a5 a9) (hl : low < 8) (hh : low ≤ high) (h16 : high < 16)
    (H : post 1 ()) : wL_lawOf_360 post mc ms (nI low) (nI high) z z kc ks a1 a2 a3 a4 a5 a6 a7 a8 a9 := by
  refine br_t rfl ?_
  rw [show (64 : Int32) + nI low = nI (64 + low) from nI_add 64 low]
  refine zq_needs0 G.1 (zq_C low) (by omega) (by omega) ⟨by omega, fun h => by omega⟩ (fun q i hq hc hi => zq_Cc (by omega) q hq i hc hi) (fun a6' a7' => br_t rfl ?_)
  by_cases e : low = high
  · subst e
    refine zq_sum hr ht G (Nat.le_refl _) (by omega) (fun b4 b5 b6 b7 b8 G' => br_t rfl ?_)
    refine zq_coeff (s := 4) hr ht G' (by decide) (by omega) (fun d4 d5 d6 d7 d8 G2 => br_t ?_ H)
    rw [show low + 1 - low = 1 by omega]
    show nI ((0 + r ^ (low + 0) % 97) % 97) = nI (zq_V r t (64 + low))
    rw [zq_V4 (by omega), Nat.zero_add, Nat.add_zero, Nat.mod_mod]
  · refine zq_sumN (by omega) (by omega) (br_f ?_ (br_t rfl H))
    intro z
    rw [nI_eq (by omega) (by omega)] at z
    exact e z
theorem zq_l269 {post : Int32 → St0 → Prop} {mc ms kc ks r t low J : Nat} {x3 : Int32} {a1 a2 a3 a4 a5 a6 a7 a8 a9 : Nat → Int32} (hr : r < 97) (ht : t < 97) (G : zq_G r t a1 a2 a3 a4 a5 a9) (hl : low < 8) (hJ : J < 8) (h3 : x3 &&& 7 = nI J)
    (H : post 1 ()) : ∃ fu, wL_lawOf_269 post mc ms x3 (nI low) (nI (low + J)) kc ks fu 0 0 a1 a2 a3 a4 a5 a6 a7 a8 a9 := by
  refine pk_loop (σ := Int32 × (Nat → Int32) × (Nat → Int32) × (Nat → Int32) × (Nat → Int32) × (Nat → Int32)) (fun n k s => wL_lawOf_269 post mc ms x3 (nI low) (nI (low + J)) kc ks n s.1 (nI k) a1 a2 a3 s.2.1 s.2.2.1 s.2.2.2.1 s.2.2.2.2.1 s.2.2.2.2.2 a9) (fun k s => s.1 = nI (zq_sm r low (min k (J + 1))) ∧ zq_G r t a1 a2 a3 s.2.1 s.2.2.1 a9) 8 0 (0, a4, a5, a6, a7, a8) (by decide) ⟨by rw [Nat.zero_min]; rfl, G⟩ ?_ ?_
  · intro n s h
    refine pk_le 8 8 (fun _ => ?_) (fun z => absurd z (by decide))
    refine zq_sum hr ht h.2 (by omega) (by omega) (fun b4 b5 b6 b7 b8 G' => ⟨by decide, br_t ?_ ?_⟩)
    · have hs := zq_sm_le r low (J + 1)
      rw [h.1, show min 8 (J + 1) = J + 1 by omega, zq_rem (by omega), show low + J + 1 - low = J + 1 by omega]
    · rw [h3, show (64 : Int32) + nI low = nI (64 + low) from nI_add 64 low, show (48 : Int32) + nI J = nI (48 + J) from nI_add 48 J]
      by_cases e : J ≤ low
      · refine zq_needs1 (i0 := J) G'.1 (by omega) (by omega) (by rw [zq_cnt4 (by omega)]; omega) (by rw [zq_nd4 (by omega), if_pos e]) (fun a6' a7' => br_f (nI_nlt e (by omega)) ?_)
        exact zq_l360 hr ht G' hl (by omega) (by omega) H
      · refine zq_needs0 G'.1 (zq_C low) (by omega) (by omega) ⟨by omega, fun h => by omega⟩ (fun q i hq hc hi => ?_) (fun a6' a7' => br_t (nI_lt (by omega) (by omega)) ?_)
        · have c := (zq_Cc (by omega) q hq i hc hi).1
          refine ⟨c, fun z => ?_⟩
          rw [z] at c
          have c2 := c.2 (by omega)
          omega
        · exact zq_l360 hr ht G' hl (by omega) (by omega) H
  · intro n k s hk h hw
    refine pk_le 8 k (fun z => absurd z (by omega)) (fun _ => nm_r (nI_add low k) ?_)
    refine pk_lt (low + J) (low + k) (fun z => nm_r (nI_1 k) (hw s ⟨?_, h.2⟩)) (fun z => ?_)
    · rw [h.1, show min (k + 1) (J + 1) = min k (J + 1) by omega]
    · refine zq_coeff (s := 4) hr ht h.2 (by decide) (by omega) (fun b4 b5 b6 b7 b8 G' => nm_r (e' := nI (zq_sm r low (min (k + 1) (J + 1)))) ?_ (nm_r (nI_1 k) (hw (nI (zq_sm r low (min (k + 1) (J + 1))), b4, b5, b6, b7, b8) ⟨rfl, G'⟩)))
      have e : zq_V r t (16 * 4 + (low + k)) = r ^ (low + k) % 97 := zq_V4 (by omega)
      rw [h.1, e, nI_add, show min (k + 1) (J + 1) = k + 1 by omega, show min k (J + 1) = k by omega]
      rfl
theorem zq_l160 {post : Int32 → St0 → Prop} {mc ms kc ks r t : Nat} {x2 x3 : Int32} {a1 a2 a3 a4 a5 a6 a7 a8 a9 : Nat → Int32} (hr : r < 97) (ht : t < 97) (G : zq_G r t a1 a2 a3 a4 a5 a9)
    (H : post 1 ()) : ∃ fu, wL_lawOf_160 post mc ms x2 x3 (nI r) (nI (zq_l r)) kc ks fu 1 (nI t) 1 0 a1 a2 a3 a4 a5 a6 a7 a8 a9 := by
  obtain ⟨low, hl, e2⟩ := pk_andE x2 (m := 7) 3 (by decide)
  obtain ⟨J, hJ, e3⟩ := pk_andE x3 (m := 7) 3 (by decide)
  refine pk_loop (σ := Int32 × Int32 × Int32 × (Nat → Int32) × (Nat → Int32) × (Nat → Int32) × (Nat → Int32) × (Nat → Int32)) (fun n k s => wL_lawOf_160 post mc ms x2 x3 (nI r) (nI (zq_l r)) kc ks n s.1 s.2.1 s.2.2.1 (nI k) a1 a2 a3 s.2.2.2.1 s.2.2.2.2.1 s.2.2.2.2.2.1 s.2.2.2.2.2.2.1 s.2.2.2.2.2.2.2 a9) (fun k s => s.1 = nI (r ^ k % 97) ∧ s.2.1 = nI (zq_V r t (96 + k)) ∧ s.2.2.1 = nI ((zq_l r * r) ^ k % 97) ∧ zq_G r t a1 a2 a3 s.2.2.2.1 s.2.2.2.2.1 a9) 8 0 (1, nI t, 1, a4, a5, a6, a7, a8) (by decide) ⟨?_, ?_, ?_, G⟩ ?_ ?_
  · rw [Nat.pow_zero]
    rfl
  · rw [zq_V6 (by decide), if_pos rfl]
  · rw [Nat.pow_zero]
    rfl
  · intro n s h
    refine pk_le 8 8 (fun _ => nm_r e2 (nm_r (e' := nI (low + J)) (by rw [e3, nI_add]) ?_)) (fun z => absurd z (by decide))
    exact zq_l269 hr ht h.2.2.2 hl hJ e3 H
  · intro n k s hk h hw
    obtain ⟨h1, h2, h3, hG⟩ := h
    have v4 : zq_V r t (16 * 4 + k) = r ^ k % 97 := zq_V4 (by omega)
    have v7 : zq_V r t (16 * 7 + k) = (zq_l r * r) ^ k % 97 := zq_V7
    have ll := zq_llt r
    have l1 : r ^ k % 97 < 97 := Nat.mod_lt _ (by decide)
    have l2 : (zq_l r * r) ^ k % 97 < 97 := Nat.mod_lt _ (by decide)
    have l3 : zq_l r * r % 97 < 97 := Nat.mod_lt _ (by decide)
    have m1 := zq_mlt l1 hr
    have m2 := zq_mlt l2 l3
    have m3 := zq_mlt ll hr
    refine pk_le 8 k (fun z => absurd z (by omega)) (fun _ => ?_)
    refine zq_coeff (s := 4) hr ht hG (by decide) (by omega) (fun b4 b5 b6 b7 b8 G1 => br_t (by rw [h1, v4]) ?_)
    refine zq_coeff (s := 6) hr ht G1 (by decide) (by omega) (fun c4 c5 c6 c7 c8 G2 => br_t h2.symm ?_)
    refine zq_coeff (s := 7) hr ht G2 (by decide) (by omega) (fun d4 d5 d6 d7 d8 G3 => br_t (by rw [h3, v7]) ?_)
    refine ⟨by decide, nm_r (e' := nI (r ^ (k + 1) % 97)) ?_ ⟨by decide, by decide, nm_r (e' := nI ((zq_l r * r) ^ (k + 1) % 97)) ?_ (nm_r (nI_1 k) (hw (nI (r ^ (k + 1) % 97), s.1, nI ((zq_l r * r) ^ (k + 1) % 97), d4, d5, d6, d7, d8) ⟨rfl, ?_, rfl, G3⟩))⟩⟩
    · rw [h1, pk_mul, zq_rem (by omega), zq_ps]
    · rw [h3, pk_mul, zq_rem (by omega), pk_mul, zq_rem (by omega), zq_pt]
    · rw [zq_V6 (by omega), if_neg (by omega)]
      exact h1
theorem zq_Tfin {r t : Nat} {d : Int32} {a9 : Nat → Int32} (hr : r < 97) (h9 : a9 1 = nI 1) (ed : zq_rd d = nI t) :
    zq_T r t (upd (upd (upd (upd (upd (upd (upd (upd (fun _ => 0) 0 (nI 0)) 1 (nI 1)) 2 (nI 4)) 3 (nI 2)) 4 (nI 7)) 5 (nI 3)) 6 (nI 8)) 7 (nI 9))
      (upd (upd (upd (upd (upd (upd (upd (upd (fun _ => 0) 0 0) 1 0) 2 (nI 1)) 3 (nI 0)) 4 (nI 3)) 5 (nI 3)) 6 (nI 4)) 7 (nI 4))
      (upd (upd (upd (upd (upd (upd (upd (upd (fun _ => 0) 0 (zq_rd (nI 1))) 1 (zq_rd (nI 0))) 2 (zq_rd (nI (zq_l r)))) 3 (nI 2)) 4 (zq_rd (nI 0))) 5 (nI 4)) 6 (zq_rd d)) 7 (nI 2)) a9 := by
  rw [ed, zq_rd_n (zq_llt r), zq_rd_n (n := 1) (by decide)]
  refine ⟨⟨?_, ?_, ?_, ?_, ?_, ?_, ?_, ?_⟩, ⟨?_, ?_, ?_, ?_, ?_, ?_⟩, ⟨?_, ?_, ?_, ?_, ?_, ?_⟩, h9⟩ <;> ((repeat rw [pk_un (by decide)]); rw [pk_us])
theorem zq_lawOf {post : Int32 → St0 → Prop} (H : post 1 ()) (c d i j : Int32) : wpL_lawOf post 350 5584 () c d i j := by
  obtain ⟨r, hr, er⟩ := zq_rd_ok c
  obtain ⟨t, ht, et⟩ := zq_rd_ok d
  refine zq_redL ?_
  rw [er]
  refine zq_redL ?_
  rw [et]
  have e97 : (97 : Int32) - nI r = nI (97 - r) := pk_sub (a := 97) (by omega)
  refine ⟨by decide, nm_r (e' := nI (zq_l r)) (by rw [e97, zq_rem (by omega)]; rfl) ⟨by decide, by decide, 9, 649, by decide, by decide, zq_init (by decide) (by decide) (fun a9 h9 => ?_)⟩⟩
  refine zq_def0 (s := 0) (k := 0) (b := nI 1) (by decide) (by decide) (fun _ _ => ?_)
  refine zq_def0 (s := 1) (k := 1) (b := nI 0) (by decide) (by decide) (fun _ _ => ?_)
  refine zq_def1 (s := 2) (k := 4) (a := 1) (by decide) (by decide) (by decide) (by decide) (fun _ _ => ?_)
  refine zq_def2 (s := 3) (k := 2) (a := 0) (b := 2) (by decide) (by decide) (by decide) (by decide) (fun _ _ => ?_)
  refine zq_def1 (s := 4) (k := 7) (a := 3) (b := nI 0) (by decide) (by decide) (by decide) (by decide) (fun _ _ => ?_)
  refine zq_def2 (s := 5) (k := 3) (a := 3) (b := 4) (by decide) (by decide) (by decide) (by decide) (fun _ _ => ?_)
  refine zq_def1 (s := 6) (k := 8) (a := 4) (by decide) (by decide) (by decide) (by decide) (fun _ _ => ?_)
  refine zq_def2 (s := 7) (k := 9) (a := 4) (b := 2) (by decide) (by decide) (by decide) (by decide) (fun b4 h4 => ?_)
  refine br_t (by rfl) ?_
  refine zq_agree hr ht ⟨zq_Tfin hr h9 et, fun p hp => Or.inl (h4 p hp)⟩ (fun a4' a5' a6' a7' a8' G => br_t rfl ?_)
  refine zq_known (s := 7) hr ht G (by decide) (fun a4' a5' a6' a7' a8' G => br_t rfl ?_)
  exact zq_l160 hr ht G H
end
section
theorem zq_cell {post : Int32 → Prop} {L : Nat} {xs : Nat → Int32} {k : Nat} (hL : L ≤ 4) (hk : k < 4) (H : ∀ x, post x) : wpL_cellAt post L xs () (nI k) :=
  pk_le L k (fun _ => H 0) (fun z => ⟨pk_in k L z, H _⟩)
theorem i_vc (xs : Nat → Int32) (L : Nat) (hL : L ≤ 4) : wpL_law (fun r => r = 1) L xs :=
  zq_cell (k := 0) hL (by decide) (fun c => zq_cell (k := 1) hL (by decide) (fun d => zq_cell (k := 2) hL (by decide) (fun i => zq_cell (k := 3) hL (by decide) (fun j => ⟨350, 5584, by decide, by decide, zq_lawOf rfl c d i j⟩))))
end
