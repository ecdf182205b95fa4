/-! THE COMPONENT's WORLD: writing one number -/
set_option maxRecDepth 100000
/-- the cell of code c reads the number (k, j) -/
def rdR (c : Nat) : Nat := if c = 1 then 56 else if c = 5 then 10 else if c = 12 then 5 else if c = 21 then 50 else if c = 23 then 51 else if c = 24 then 52 else if c = 25 then 53 else if c = 27 then 31 else if c = 29 then 63 else 1000
def rdO (c k j : Nat) : Prop := if c < 50 then (if c = 0 then k = 0 else if c = 8 then (k = 0 ∧ (j = 3 ∨ j = 61)) else k = rdR c) else if c < 131 then 100 ≤ c ∧ k = c - 30 else if c < 143 then 140 ≤ c ∧ k = 32 ∧ j % 3 = c - 140 else if c < 154 then 150 ≤ c ∧ k = 38 ∧ j = c - 150
  else if c < 208 then 200 ≤ c ∧ ((k = 56 ∧ j = c - 200) ∨ (k = 11 ∧ j = c - 200) ∨ (k = 12 ∧ j / 3 = c - 200)) else if c < 210 then ((k = 56 ∧ j = c - 200) ∨ (k = 67 ∧ j = c - 200) ∨ (k = 68 ∧ j / 3 = c - 200)) else if c < 226 then 220 ≤ c ∧ k = 0 ∧ (j = 3 ∨ j = 61) else if c = 226 then k = 66 else if c = 240 then k = 64 else 230 ≤ c ∧ c < 234 ∧ ((k = 38 ∧ j = c - 230) ∨ (k = 39 ∧ j = c - 230) ∨ (k = 40 ∧ j = c - 230) ∨ (k = 41 ∧ j / 40 = c - 230))
theorem rdO_1 (j : Nat) : rdO 1 56 j := by unfold rdO rdR; simp
theorem rdO_5 (j : Nat) : rdO 5 10 j := by unfold rdO rdR; simp
theorem rdO_12 (j : Nat) : rdO 12 5 j := by unfold rdO rdR; simp
theorem rdO_21 (j : Nat) : rdO 21 50 j := by unfold rdO rdR; simp
theorem rdO_23 (j : Nat) : rdO 23 51 j := by unfold rdO rdR; simp
theorem rdO_24 (j : Nat) : rdO 24 52 j := by unfold rdO rdR; simp
theorem rdO_25 (j : Nat) : rdO 25 53 j := by unfold rdO rdR; simp
theorem rdO_27 (j : Nat) : rdO 27 31 j := by unfold rdO rdR; simp
theorem rdO_29 (j : Nat) : rdO 29 63 j := by unfold rdO rdR; simp
theorem rdO_0 (j : Nat) : rdO 0 0 j := by unfold rdO; simp
theorem rdO_8 : rdO 8 0 3 := by unfold rdO; simp
theorem rdO_8b : rdO 8 0 61 := by unfold rdO; simp
theorem rdO_226 (j : Nat) : rdO 226 66 j := by unfold rdO; simp
theorem rdO_240 (j : Nat) : rdO 240 64 j := by unfold rdO; simp
theorem rdO_100 {c : Nat} (j : Nat) (h : 100 ≤ c ∧ c < 131) : rdO c (c - 30) j := by unfold rdO; rw [if_neg (by omega), if_pos (by omega)]; exact ⟨h.1, rfl⟩
theorem rdO_140 {c p : Nat} (h : 140 ≤ c ∧ c < 143) : rdO c 32 (3 * p + (c - 140)) := by unfold rdO; rw [if_neg (by omega), if_neg (by omega), if_pos (by omega)]; exact ⟨h.1, rfl, by omega⟩
theorem rdO_150 {c : Nat} (h : 150 ≤ c ∧ c < 154) : rdO c 38 (c - 150) := by unfold rdO; rw [if_neg (by omega), if_neg (by omega), if_neg (by omega), if_pos (by omega)]; exact ⟨h.1, rfl, rfl⟩
theorem rdO_200 {c k j : Nat} (h : 200 ≤ c ∧ c < 208) (h2 : (k = 56 ∧ j = c - 200) ∨ (k = 11 ∧ j = c - 200) ∨ (k = 12 ∧ j / 3 = c - 200)) : rdO c k j := by unfold rdO; rw [if_neg (by omega), if_neg (by omega), if_neg (by omega), if_neg (by omega), if_pos (by omega)]; exact ⟨h.1, h2⟩
theorem rdO_208 {c k j : Nat} (h : 208 ≤ c ∧ c < 210) (h2 : (k = 56 ∧ j = c - 200) ∨ (k = 67 ∧ j = c - 200) ∨ (k = 68 ∧ j / 3 = c - 200)) : rdO c k j := by unfold rdO; rw [if_neg (by omega), if_neg (by omega), if_neg (by omega), if_neg (by omega), if_neg (by omega), if_pos (by omega)]; exact h2
theorem rdO_220 {c : Nat} (h : 220 ≤ c ∧ c < 226) : rdO c 0 3 := by unfold rdO; rw [if_neg (by omega), if_neg (by omega), if_neg (by omega), if_neg (by omega), if_neg (by omega), if_neg (by omega), if_pos (by omega)]; exact ⟨h.1, rfl, Or.inl rfl⟩
theorem rdO_220b {c : Nat} (h : 220 ≤ c ∧ c < 226) : rdO c 0 61 := by unfold rdO; rw [if_neg (by omega), if_neg (by omega), if_neg (by omega), if_neg (by omega), if_neg (by omega), if_neg (by omega), if_pos (by omega)]; exact ⟨h.1, rfl, Or.inr rfl⟩
theorem rdO_230 {c k j : Nat} (h : 230 ≤ c ∧ c < 234) (h2 : (k = 38 ∧ j = c - 230) ∨ (k = 39 ∧ j = c - 230) ∨ (k = 40 ∧ j = c - 230) ∨ (k = 41 ∧ j / 40 = c - 230)) : rdO c k j := by unfold rdO; rw [if_neg (by omega), if_neg (by omega), if_neg (by omega), if_neg (by omega), if_neg (by omega), if_neg (by omega), if_neg (by omega), if_neg (by omega), if_neg (by omega)]; exact ⟨h.1, h.2, h2⟩
theorem cE_congr {K : Nat → ClassId} {fv : List Value × (Nat → Nat)} {n n2 : mS} {δ : Nat → Nat} {c : Nat} (h : ∀ k j, rdO c k j → n2 k j = n k j) : cE K fv n2 δ c = cE K fv n δ c := by
  unfold cE
  by_cases h50 : c < 50
  · rw [if_pos h50, if_pos h50]
    unfold cE0
    by_cases c0 : c = 0
    · subst c0
      rw [if_pos rfl, if_pos rfl, cF_eq (fun j => h 0 j (rdO_0 j))]
    rw [if_neg c0, if_neg c0]
    by_cases c1 : c = 1
    · subst c1
      rw [if_pos rfl, if_pos rfl, show n2 56 = n 56 from funext fun j => h 56 j (rdO_1 j)]
    rw [if_neg c1, if_neg c1]
    by_cases c5 : c = 5
    · subst c5
      rw [if_pos rfl, if_pos rfl, show n2 10 = n 10 from funext fun j => h 10 j (rdO_5 j)]
    rw [if_neg c5, if_neg c5]
    by_cases c6 : c = 6
    · rw [if_pos c6, if_pos c6]
    rw [if_neg c6, if_neg c6]
    by_cases c8 : c = 8
    · subst c8
      rw [if_pos rfl, if_pos rfl, h 0 3 rdO_8, h 0 61 rdO_8b]
    rw [if_neg c8, if_neg c8]
    by_cases c10 : c = 10
    · rw [if_pos c10, if_pos c10]
    rw [if_neg c10, if_neg c10]
    by_cases c11 : c = 11
    · rw [if_pos c11, if_pos c11]
    rw [if_neg c11, if_neg c11]
    by_cases c12 : c = 12
    · subst c12
      rw [if_pos rfl, if_pos rfl, show n2 5 = n 5 from funext fun j => h 5 j (rdO_12 j)]
    rw [if_neg c12, if_neg c12]
    by_cases c21 : c = 21
    · subst c21
      rw [if_pos rfl, if_pos rfl, show n2 50 = n 50 from funext fun j => h 50 j (rdO_21 j)]
    rw [if_neg c21, if_neg c21]
    by_cases c22 : c = 22
    · rw [if_pos c22, if_pos c22]
    rw [if_neg c22, if_neg c22]
    by_cases c23 : c = 23
    · subst c23
      rw [if_pos rfl, if_pos rfl, show n2 51 = n 51 from funext fun j => h 51 j (rdO_23 j)]
    rw [if_neg c23, if_neg c23]
    by_cases c24 : c = 24
    · subst c24
      rw [if_pos rfl, if_pos rfl, show n2 52 = n 52 from funext fun j => h 52 j (rdO_24 j)]
    rw [if_neg c24, if_neg c24]
    by_cases c25 : c = 25
    · subst c25
      rw [if_pos rfl, if_pos rfl, show n2 53 = n 53 from funext fun j => h 53 j (rdO_25 j)]
    rw [if_neg c25, if_neg c25]
    by_cases c27 : c = 27
    · subst c27
      rw [if_pos rfl, if_pos rfl, show n2 31 = n 31 from funext fun j => h 31 j (rdO_27 j)]
    rw [if_neg c27, if_neg c27]
    by_cases c28 : c = 28
    · rw [if_pos c28, if_pos c28]
    rw [if_neg c28, if_neg c28]
    by_cases c29 : c = 29
    · subst c29
      rw [if_pos rfl, if_pos rfl, show n2 63 = n 63 from funext fun j => h 63 j (rdO_29 j)]
    rw [if_neg c29, if_neg c29]
  · rw [if_neg h50, if_neg h50]
    unfold cE1
    by_cases a1 : 100 ≤ c ∧ c < 131
    · rw [if_pos a1, if_pos a1, show n2 (c - 30) = n (c - 30) from funext fun j => h (c - 30) j (rdO_100 j a1)]
    rw [if_neg a1, if_neg a1]
    by_cases a2 : 140 ≤ c ∧ c < 143
    · rw [if_pos a2, if_pos a2, show (fun p => n2 32 (3 * p + (c - 140))) = (fun p => n 32 (3 * p + (c - 140))) from funext fun p => h 32 _ (rdO_140 a2)]
    rw [if_neg a2, if_neg a2]
    by_cases a3 : 150 ≤ c ∧ c < 154
    · rw [if_pos a3, if_pos a3, h 38 (c - 150) (rdO_150 a3)]
    rw [if_neg a3, if_neg a3]
    by_cases a4 : 200 ≤ c ∧ c < 208
    · rw [if_pos a4, if_pos a4, h 56 (c - 200) (rdO_200 a4 (by omega)), h 11 (c - 200) (rdO_200 a4 (by omega)), h 12 (3 * (c - 200)) (rdO_200 a4 (by omega)), h 12 (3 * (c - 200) + 1) (rdO_200 a4 (by omega)), h 12 (3 * (c - 200) + 2) (rdO_200 a4 (by omega))]
    rw [if_neg a4, if_neg a4]
    by_cases a4b : 208 ≤ c ∧ c < 210
    · rw [if_pos a4b, if_pos a4b, h 56 (c - 200) (rdO_208 a4b (by omega)), h 67 (c - 200) (rdO_208 a4b (by omega)), h 68 (3 * (c - 200)) (rdO_208 a4b (by omega)), h 68 (3 * (c - 200) + 1) (rdO_208 a4b (by omega)), h 68 (3 * (c - 200) + 2) (rdO_208 a4b (by omega))]
    rw [if_neg a4b, if_neg a4b]
    by_cases a5 : 220 ≤ c ∧ c < 226
    · rw [if_pos a5, if_pos a5, h 0 3 (rdO_220 a5), h 0 61 (rdO_220b a5)]
    rw [if_neg a5, if_neg a5]
    by_cases a6 : 230 ≤ c ∧ c < 234
    · rw [if_pos a6, if_pos a6, h 38 (c - 230) (rdO_230 a6 (by omega)), h 39 (c - 230) (rdO_230 a6 (by omega)), h 40 (c - 230) (rdO_230 a6 (by omega)), show (fun i => if i < 40 then n2 41 (40 * (c - 230) + i) else 0) = (fun i => if i < 40 then n 41 (40 * (c - 230) + i) else 0) from funext fun i => by
        by_cases hi : i < 40
        · rw [if_pos hi, if_pos hi]; exact h 41 _ (rdO_230 a6 (by omega))
        · rw [if_neg hi, if_neg hi]]
    rw [if_neg a6, if_neg a6]
    by_cases a7 : c = 226
    · subst a7
      rw [if_pos rfl, if_pos rfl, h 66 0 (rdO_226 0), h 66 1 (rdO_226 1)]
    rw [if_neg a7, if_neg a7]
    by_cases a8 : c = 240
    · subst a8
      rw [if_pos rfl, if_pos rfl, h 64 0 (rdO_240 0), h 64 1 (rdO_240 1), h 64 2 (rdO_240 2)]
    rw [if_neg a8, if_neg a8]
theorem cE_up {K : Nat → ClassId} {fv : List Value × (Nat → Nat)} {n : mS} {δ : Nat → Nat} {c k j : Nat} {x : Int32} (h : ¬ rdO c k j) : cE K fv (up n k j x) δ c = cE K fv n δ c :=
  cE_congr fun a b hab => up_ne (fun e => h (by rw [← e.1, ← e.2]; exact hab))
section FR
variable {n n' : mS} {k j : Nat} {x : Int32} {δ : Nat → Nat} {ν : Nat → Option (Mg × Nat)}
theorem up_n {a b : Nat} (h : frc k j) (hc : a = 1 ∨ a = 2 ∨ a = 40 ∨ a = 63 ∨ (a = 56 ∧ b < 8) ∨ (a = 0 ∧ (b = 3 ∨ b = 6 ∨ b = 13 ∨ (33 ≤ b ∧ b ≤ 37) ∨ (57 ≤ b ∧ b ≤ 61)))) : up n k j x a b = n a b := by
  refine up_ne ?_
  rintro ⟨rfl, rfl⟩
  unfold frc at h
  omega
theorem crel_up (h : frc k j) (a i : Nat) : crel (up n k j x) a i ↔ crel n a i := by
  unfold crel
  rw [up_n h (by omega), up_n h (by omega), up_n h (by omega), up_n h (by omega), up_n h (by omega), up_n h (by omega), up_n h (by omega), up_n h (by omega)]
theorem cTx_up (h : frc k j) (ht : cTx n δ ν) : cTx (up n k j x) δ ν := by
  intro t h1
  rw [up_n h (by omega), up_n h (by omega)] at h1
  obtain ⟨y, h2, h3⟩ := ht t h1
  refine ⟨y, ?_, h3⟩
  rw [show (fun i => up n k j x 1 (160 * t + i)) = (fun i => n 1 (160 * t + i)) from funext fun i => up_n h (by omega), up_n h (by omega)]
  exact h2
theorem cIm_up (h : frc k j) (ht : cIm (n, δ, ν)) : cIm (up n k j x, δ, ν) := by
  rcases ht with ⟨h1, h2⟩ | ⟨h1, h2, h3⟩
  · exact Or.inl ⟨(up_n h (by omega)).trans h1, (up_n h (by omega)).trans h2⟩
  · refine Or.inr ⟨(up_n h (by omega)).trans h1, ?_, fun i hi => ?_⟩
    · show okN (up n k j x 0 33) 8
      rw [up_n h (by omega)]; exact h2
    · show up n k j x 63 i = up n k j x 0 (33 + i)
      rw [up_n h (by omega), up_n h (by omega)]; exact h3 i hi
theorem cAg_up (h : frc k j) (ha : cAg n n') : cAg (up n k j x) (up n' k j x) := by
  refine ⟨fun a i hc => ?_, fun p h8 hp => ?_⟩
  · rw [crel_up h] at hc
    by_cases e : a = k ∧ i = j
    · obtain ⟨rfl, rfl⟩ := e; rw [up_eq, up_eq]
    · rw [up_ne e, up_ne e]; exact ha.1 a i hc
  · rw [up_n h (by omega), up_n h (by omega)] at hp
    rw [up_n h (by omega)]
    exact ha.2 p h8 hp
end FR
