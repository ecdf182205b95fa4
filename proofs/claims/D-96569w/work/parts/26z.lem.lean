/-! plain steps of the loops -/
set_option maxRecDepth 100000
theorem liv_end {s σ : mS} {p : Nat} (hs : ab s = livN (ab σ) p) (h1 : tn (σ 0 13) ≤ p) (h2 : p ≤ tn (σ 0 13)) : ab (up s 0 7 (s 0 7 + 1)) = livS (ab σ) := by
  have e : p = tn (σ 0 13) := by omega
  subst e
  rw [ab_u rfl, hs, ← ab_rd (σ := s) 0 7 rfl, hs]
  rfl
theorem liv_13 {s σ : mS} {p : Nat} (hM : σ 0 13 = nI (tn (σ 0 13))) (hs : ab s = livN (ab σ) p) (h2 : p ≤ tn (σ 0 13)) : s 0 13 = nI (tn (σ 0 13)) := by
  rw [← ab_rd (σ := s) 0 13 rfl, hs, livN_r (α := ab σ) p h2 0 13 (by omega)]
  exact hM
theorem liv_go {s t σ : mS} {p : Nat} (hs : ab s = livN (ab σ) p) (ht : ab t = ab s) : ab (up t 12 (3 * p + 2) (groV (ab t) p (s 12 (3 * p + 2) - s 12 (3 * p + 2) * rotV (ab s) p / 100))) = livN (ab σ) (p + 1) := by
  rw [ab_u rfl, ht]
  show liv1 (ab s) p = liv1 (livN (ab σ) p) p
  rw [hs]
theorem all_end {σ : mS} {p : Nat} (h1 : tn (σ 0 13) ≤ p) (h2 : p ≤ tn (σ 0 13)) : p = tn (σ 0 13) := by omega
def asJ (a c : Nat) (σ s : mS) (j : Nat) : Prop := ∀ k i, s k i = if k = a ∧ i < j then σ c i else σ k i
theorem asJ_0 {a c : Nat} {σ : mS} : asJ a c σ σ 0 := fun k i => by rw [if_neg (by omega)]
theorem asJ_s {a c : Nat} {σ s : mS} {j : Nat} (hac : a ≠ c) (h : asJ a c σ s j) : asJ a c σ (up s a j (s c j)) (j + 1) := by
  intro k i
  by_cases d : k = a ∧ i = j
  · obtain ⟨rfl, rfl⟩ := d
    rw [up_eq, if_pos (by omega), h, if_neg (by omega)]
  · rw [up_ne d, h]
    by_cases e : k = a ∧ i < j
    · rw [if_pos e, if_pos (by omega)]
    · rw [if_neg e, if_neg (by omega)]
theorem asd_end {σ s : mS} {j : Nat} (hs : asJ 29 12 σ s j) (h1 : 24 ≤ j) (h2 : j ≤ 24) : ab (up s 0 30 (s 0 7)) = asd (ab σ) := by
  have e : j = 24 := by omega
  subst e
  rw [ab_u rfl]
  funext k i
  unfold asd
  by_cases c : k = 0 ∧ i = 30
  · obtain ⟨rfl, rfl⟩ := c
    rw [up_eq, hs, if_neg (by omega), if_neg (by omega), if_pos ⟨rfl, rfl⟩]; rfl
  · rw [up_ne c]
    by_cases d : k = 29
    · subst d
      rw [if_pos rfl, ab_rd 29 i rfl, hs, ab_rd 12 i rfl, ab_rd 29 i rfl]
      by_cases f : i < 24
      · rw [if_pos ⟨rfl, f⟩, if_pos f]
      · rw [if_neg (by omega), if_neg f]
    · rw [if_neg d, if_neg c]
      have e : s k i = σ k i := by rw [hs, if_neg (fun g => d g.1)]
      unfold ab
      rw [e]
theorem bck_end {σ s : mS} {j : Nat} (hs : asJ 12 29 σ s j) (h1 : 24 ≤ j) (h2 : j ≤ 24) : ab (up s 0 7 (s 0 30)) = bck (ab σ) := by
  have e : j = 24 := by omega
  subst e
  rw [ab_u rfl]
  funext k i
  unfold bck
  by_cases c : k = 0 ∧ i = 7
  · obtain ⟨rfl, rfl⟩ := c
    rw [up_eq, hs, if_neg (by omega), if_neg (by omega), if_pos ⟨rfl, rfl⟩]; rfl
  · rw [up_ne c]
    by_cases d : k = 12
    · subst d
      rw [if_pos rfl, ab_rd 12 i rfl, hs, ab_rd 29 i rfl, ab_rd 12 i rfl]
      by_cases f : i < 24
      · rw [if_pos ⟨rfl, f⟩, if_pos f]
      · rw [if_neg (by omega), if_neg f]
    · rw [if_neg d, if_neg c]
      have e : s k i = σ k i := by rw [hs, if_neg (fun g => d g.1)]
      unfold ab
      rw [e]
theorem nI_m1 {m : Nat} (h : m < 2 ^ 31) : nI m ≠ -1 := by
  intro g
  have g2 := congrArg Int32.toInt g
  rw [nI_toInt h] at g2
  have : (-1 : Int32).toInt = -1 := by decide
  omega
theorem hei_1 {σ : mS} {p : Nat} {x : Int32} (hx : x = heiN (ab σ) p) (c : x = -1) : nI p = heiN (ab σ) (p + 1) := by
  show _ = (if heiN (ab σ) p = -1 ∨ _ then _ else _)
  rw [← hx, if_pos (Or.inl c)]
theorem hei_2 {σ : mS} {p m : Nat} {x : Int32} (hx : x = heiN (ab σ) p) (hm : x = nI m) (h : m < 2 ^ 31) (c : ¬ σ 12 (3 * p + 2) ≤ σ 12 (3 * m + 2)) : nI p = heiN (ab σ) (p + 1) := by
  show _ = (if heiN (ab σ) p = -1 ∨ σ 12 (3 * tn (heiN (ab σ) p) + 2) < σ 12 (3 * p + 2) then _ else _)
  rw [← hx, hm, tn_nI h, if_pos (Or.inr (Int32.not_le.mp c))]
theorem hei_3 {σ : mS} {p m : Nat} {x : Int32} (hx : x = heiN (ab σ) p) (hm : x = nI m) (h : m < 2 ^ 31) (c : σ 12 (3 * p + 2) ≤ σ 12 (3 * m + 2)) : x = heiN (ab σ) (p + 1) := by
  show _ = (if heiN (ab σ) p = -1 ∨ σ 12 (3 * tn (heiN (ab σ) p) + 2) < σ 12 (3 * p + 2) then _ else _)
  rw [← hx, if_neg]
  rintro (g | g)
  · exact nI_m1 h (hm.symm.trans g)
  · rw [hm, tn_nI h] at g
    exact absurd c (Int32.not_le.mpr g)
