/-! plain steps for found, soil, sown, safest, when, enough -/
set_option maxRecDepth 100000
theorem cl_100 (x : Int32) : 0 ≤ cl x 0 100 ∧ cl x 0 100 ≤ 100 := by unfold cl; grind
theorem cl_99 (x : Int32) : 0 ≤ cl x 0 99 ∧ cl x 0 99 ≤ 100 := by unfold cl; grind
theorem say_in (α : mS) (w : Int32) (p : Nat) : 0 ≤ sayV α w p ∧ sayV α w p ≤ 100 := by
  unfold sayV
  by_cases h : w = 1
  · rw [if_pos h]; exact cl_99 _
  · rw [if_neg h]; exact cl_100 _
theorem sub100 {x : Int32} (h : 0 ≤ x ∧ x ≤ 100) : ∃ m, m ≤ 100 ∧ 100 - x = nI m := by
  obtain ⟨k, hk, rfl⟩ := in_of (M := 100) (n := 100) (by decide) h
  exact ⟨100 - k, by omega, pk_sub (a := 100) (by omega)⟩
theorem hid_le (α : mS) (p : Nat) : ∀ n, n ≤ 8 → hidV α p n = lN (hidN α p n) ∧ hidN α p n ≤ 100 ^ n := by
  intro n
  induction n with
  | zero => intro _; exact ⟨rfl, Nat.le_refl _⟩
  | succ n ih =>
    intro hn
    obtain ⟨h1, h2⟩ := ih (by omega)
    obtain ⟨m, hm, e⟩ := sub100 (say_in (yrs α n) 2 p)
    have e2 : tn (100 - sayV (yrs α n) 2 p) = m := by rw [e, tn_nI (by omega)]
    constructor
    · show hidV α p n * (100 - sayV (yrs α n) 2 p).toInt64 = lN (hidN α p n * tn (100 - sayV (yrs α n) 2 p))
      rw [e2, e, h1, nI_l (by omega), lN_mul]
    · show hidN α p n * tn (100 - sayV (yrs α n) 2 p) ≤ 100 ^ (n + 1)
      rw [e2, Nat.pow_succ]
      exact Nat.mul_le_mul h2 hm
theorem pow8 {n : Nat} (h : n ≤ 8) : 100 ^ n < 2 ^ 62 := by
  have : 100 ^ n ≤ 100 ^ 8 := Nat.pow_le_pow_right (by decide) h
  omega
theorem gcd_go {a b : Nat} (h : 0 < b) : Nat.gcd a b = Nat.gcd b (a % b) := by
  rw [Nat.gcd_comm a b, Nat.gcd_rec b a, Nat.gcd_comm]
theorem gcd_0 {a A C : Nat} (h : Nat.gcd A C = Nat.gcd a 0) : a = Nat.gcd A C := by rw [h, Nat.gcd_zero_right]
theorem hid_eq3 {α β : mS} (h : na α = na β) (p : Nat) : ∀ n, hidN α p n = hidN β p n := by
  intro n
  induction n with
  | zero => rfl
  | succ n ih =>
    show hidN α p n * _ = hidN β p n * _
    rw [ih, say_eq2 (yrs_eq h n)]
theorem soi_go {σ s : mS} {p n g : Nat} {x y v : Int32} (h : nb (up s 12 (3 * p + 1) (nI g)) = nb (up σ 12 (3 * p + 1) (nI g))) (hv : v = mbV (ab (up s 12 (3 * p + 1) (nI g))) p n) (hx : (x, y) = soiN (ab σ) p n g) : (if y < v then (nI g, v) else (x, y)) = soiN (ab σ) p n (g + 1) := by
  have e : v = mbV (up (ab σ) 12 (3 * p + 1) (nI g)) p n := by
    rw [hv]
    have := mb_eq2 (show na (ab (up s 12 (3 * p + 1) (nI g))) = na (ab (up σ 12 (3 * p + 1) (nI g))) from h) p n
    rw [this, ab_u rfl]
  show _ = (if (soiN (ab σ) p n g).2 < _ then _ else _)
  rw [← hx, ← e]
theorem nb_keep {σ s t : mS} {k j : Nat} {x : Int32} (h1 : asi k j = false) (h2 : scr k j = false) (h : ∀ y, nb (up s k j y) = nb (up σ k j y)) (ht : nb t = nb (up s k j x)) : ∀ y, nb (up t k j y) = nb (up σ k j y) := by
  intro y
  rw [nb_u ht h1 h2, up_up]
  exact h y
theorem eno_wf {σ s : mS} {p : Nat} {x : Int32} (h : nb (up s 12 (3 * p + 2) x) = nb (up σ 12 (3 * p + 2) x)) (hw : Wf (ab σ)) (hx : 0 ≤ x ∧ x ≤ 9999) : Wf (ab (up s 12 (3 * p + 2) x)) := by
  refine wf_na.mp ?_
  show Wf (nb (up s 12 (3 * p + 2) x))
  rw [h]
  show Wf (na (ab (up σ 12 (3 * p + 2) x)))
  refine wf_na.mpr ?_
  rw [ab_u rfl]
  exact wf_cnt hw hx
theorem eno_val {σ s : mS} {p n m : Nat} (h : nb (up s 12 (3 * p + 2) (nI m)) = nb (up σ 12 (3 * p + 2) (nI m))) : mbV (ab (up s 12 (3 * p + 2) (nI m))) p n = mbV (up (ab σ) 12 (3 * p + 2) (nI m)) p n := by
  rw [mb_eq2 (show na (ab (up s 12 (3 * p + 2) (nI m))) = na (ab (up σ 12 (3 * p + 2) (nI m))) from h) p n, ab_u rfl]
theorem eno_s {α : mS} {p n m : Nat} {k x : Int32} (hx : x = enoN α p n k m) (h : x = -1) (c : mbV (up α 12 (3 * p + 2) (nI (m + 1))) p n < k) : -1 = enoN α p n k (m + 1) := by
  show _ = (if enoN α p n k m = -1 then (if _ then _ else _) else _)
  rw [← hx, if_pos h, if_pos c]
theorem eno_f {α : mS} {p n m : Nat} {k x : Int32} (hx : x = enoN α p n k m) (h : x = -1) (c : ¬ mbV (up α 12 (3 * p + 2) (nI (m + 1))) p n < k) : nI (m + 1) = enoN α p n k (m + 1) := by
  show _ = (if enoN α p n k m = -1 then (if _ then _ else _) else _)
  rw [← hx, if_pos h, if_neg c]
theorem eno_m {α : mS} {p n j : Nat} {k : Int32} (h : ¬ enoN α p n k j = -1) : ∀ d, enoN α p n k (j + d) = enoN α p n k j := by
  intro d
  induction d with
  | zero => rfl
  | succ d ih =>
    have e : enoN α p n k (j + (d + 1)) = (if enoN α p n k (j + d) = -1 then (if mbV (up α 12 (3 * p + 2) (nI (j + d + 1))) p n < k then -1 else nI (j + d + 1)) else enoN α p n k (j + d)) := rfl
    rw [e, ih, if_neg h]
theorem eno_e {α : mS} {p n j : Nat} {k x : Int32} (hx : x = enoN α p n k j) (hj : j ≤ 99) (h : 99 ≤ j ∨ ¬ x = -1) : x = enoN α p n k 99 := by
  rcases h with h | h
  · rw [show 99 = j by omega]; exact hx
  · have := eno_m (hx ▸ h) (99 - j)
    rw [show j + (99 - j) = 99 by omega] at this
    rw [this]; exact hx
theorem nb_13 {σ s : mS} {k j : Nat} (hk : ¬ (0 = k ∧ 13 = j)) (h : ∀ y, nb (up s k j y) = nb (up σ k j y)) : s 0 13 = σ 0 13 := by
  have := nb_rd (h 0) 0 13 rfl rfl
  rw [up_ne hk, up_ne hk] at this
  exact this
