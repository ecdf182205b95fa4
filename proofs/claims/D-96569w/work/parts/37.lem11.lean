/-! plain meaning and steps: lots, images, counts, sheets, texts -/
set_option maxRecDepth 100000
def chaN (α : mS) (z : Int32) : Nat → Nat
  | 0 => 0
  | j + 1 => chaN α z j + (if draV α (z + nI j) 10 ≤ 0 then 0 else 1)
theorem cha_le (α : mS) (z : Int32) : ∀ n, chaN α z n ≤ n := by
  intro n
  induction n with
  | zero => exact Nat.le_refl _
  | succ n ih => show chaN α z n + _ ≤ _; split <;> omega
abbrev chaOK (m k : Int32) : Prop := (1 ≤ m ∧ m ≤ 20) ∧ (0 ≤ k ∧ k ≤ 1)
def chaR (α : mS) (z m k : Int32) : Int64 := if chaOK m k then low (chaN α z (tn m)) (tn m) k else -4611686018427387904
theorem in_of1 {o : Int32} (h : 1 ≤ o ∧ o ≤ 20) : ∃ k, (1 ≤ k ∧ k ≤ 20) ∧ o = nI k := by
  obtain ⟨k, hk, e⟩ := in_of (M := 20) (n := 20) (by decide) ⟨by have := h.1; grind, h.2⟩
  refine ⟨k, ⟨?_, hk⟩, e⟩
  have h1 := h.1
  rw [e] at h1
  exact (nI_leI (a := 1) (b := k) (by decide) (by omega)).mp h1
/-- kinds: whether a planting of kind x is one of kind k -/
def ovr (x : Int32) : Int32 := if x = 0 then -1 else if x = 3 then 1 else if x = 4 then 2 else 0
abbrev isK (x k : Int32) : Prop := x = k ∨ k = 0 ∨ (x = 3 ∧ k = 1) ∨ (x = 4 ∧ k = 2)
def rnk (x : Int32) : Nat := if x = -1 then 0 else if x = 0 then 1 else if x = 3 ∨ x = 4 then 3 else 2
theorem ov_step {a b : Nat} (ha : a < 6) (hb : b < 6) (h : ¬ nI a = nI b) : (ovr (nI a) = -1 → ¬ isK (nI a) (nI b)) ∧ (¬ ovr (nI a) = -1 → (isK (ovr (nI a)) (nI b) ↔ isK (nI a) (nI b)) ∧ (ovr (nI a) = nI 0 ∨ ovr (nI a) = nI 1 ∨ ovr (nI a) = nI 2)) ∧ rnk (ovr (nI a)) < rnk (nI a) := by
  rcases (show a = 0 ∨ a = 1 ∨ a = 2 ∨ a = 3 ∨ a = 4 ∨ a = 5 by omega) with rfl | rfl | rfl | rfl | rfl | rfl <;>
  rcases (show b = 0 ∨ b = 1 ∨ b = 2 ∨ b = 3 ∨ b = 4 ∨ b = 5 by omega) with rfl | rfl | rfl | rfl | rfl | rfl <;>
  first
  | exact absurd rfl h
  | exact ⟨fun _ => by decide, fun g => absurd (by decide) g, by decide⟩
  | exact ⟨fun g => absurd g (by decide), fun _ => ⟨by decide, by decide⟩, by decide⟩
def tkI (x0 k x : Int32) : Prop := (x = -1 ∧ ¬ isK x0 k) ∨ ((∃ a, a < 6 ∧ x = nI a) ∧ (isK x k ↔ isK x0 k))
theorem tkI_step {x0 k x : Int32} {b : Nat} (hb : b < 6) (hk : k = nI b) (h : tkI x0 k x) (h1 : ¬ x = -1) (h2 : ¬ x = k) : tkI x0 k (ovr x) ∧ rnk (ovr x) < rnk x := by
  rcases h with ⟨e, _⟩ | ⟨⟨a, ha, rfl⟩, hi⟩
  · exact absurd e h1
  · subst hk
    obtain ⟨g1, g2, g3⟩ := ov_step ha hb h2
    refine ⟨?_, g3⟩
    by_cases c : ovr (nI a) = -1
    · exact Or.inl ⟨c, fun h => g1 c (hi.mpr h)⟩
    · obtain ⟨g4, g5⟩ := g2 c
      refine Or.inr ⟨?_, g4.trans hi⟩
      rcases g5 with e | e | e
      · exact ⟨0, by decide, e⟩
      · exact ⟨1, by decide, e⟩
      · exact ⟨2, by decide, e⟩
theorem tkI_end {x0 k x : Int32} (h : tkI x0 k x) (c : x = k) (hk : ¬ k = -1) : isK x0 k := by
  rcases h with ⟨e, _⟩ | ⟨_, hi⟩
  · exact absurd (c ▸ e) hk
  · exact hi.mp (Or.inl c)
theorem tkI_no {x0 k x : Int32} (h : tkI x0 k x) (c : ¬ x = k) (e : x = -1) : ¬ isK x0 k := by
  rcases h with ⟨_, g⟩ | ⟨⟨a, ha, e2⟩, _⟩
  · exact g
  · exact absurd (e2.symm.trans e) (nI_m1 (by omega))
def takR (α : mS) (o k : Int32) : Int32 := if ¬ (0 ≤ k ∧ k ≤ 5) then -2 else if ¬ (0 ≤ o ∧ o ≤ α 0 13 - 1) then -11 else if isK (α 11 (tn o)) k then α 12 (3 * tn o) else -13
def couR (α : mS) (w : Int32) : Int32 := if ¬ (0 ≤ w ∧ w ≤ 6) then -2 else if w = 0 then α 0 13 else if w = 1 then allV α else if w = 2 then bloV α else if w = 3 then α 0 9 else if w = 4 then α 0 3 else if w = 5 then α 0 6 else α 0 4
theorem couR_b {α : mS} {w : Int32} (h : ¬ (0 ≤ w ∧ w ≤ 6)) : couR α w = -2 := if_pos h
theorem couR_0 {α : mS} {w : Int32} (h : w = 0) : couR α w = α 0 13 := by subst h; unfold couR; rw [if_neg (fun g => g (by decide)), if_pos rfl]
theorem couR_1 {α : mS} {w : Int32} (h : w = 1) : couR α w = allV α := by subst h; unfold couR; rw [if_neg (fun g => g (by decide)), if_neg (by decide), if_pos rfl]
theorem couR_2 {α : mS} {w : Int32} (h : w = 2) : couR α w = bloV α := by subst h; unfold couR; rw [if_neg (fun g => g (by decide)), if_neg (by decide), if_neg (by decide), if_pos rfl]
theorem couR_3 {α : mS} {w : Int32} (h : w = 3) : couR α w = α 0 9 := by subst h; unfold couR; rw [if_neg (fun g => g (by decide)), if_neg (by decide), if_neg (by decide), if_neg (by decide), if_pos rfl]
theorem couR_4 {α : mS} {w : Int32} (h : w = 4) : couR α w = α 0 3 := by subst h; unfold couR; rw [if_neg (fun g => g (by decide)), if_neg (by decide), if_neg (by decide), if_neg (by decide), if_neg (by decide), if_pos rfl]
theorem couR_5 {α : mS} {w : Int32} (h : w = 5) : couR α w = α 0 6 := by subst h; unfold couR; rw [if_neg (fun g => g (by decide)), if_neg (by decide), if_neg (by decide), if_neg (by decide), if_neg (by decide), if_neg (by decide), if_pos rfl]
theorem couR_6 {α : mS} {w : Int32} (h : w = 6) : couR α w = α 0 4 := by subst h; unfold couR; rw [if_neg (fun g => g (by decide)), if_neg (by decide), if_neg (by decide), if_neg (by decide), if_neg (by decide), if_neg (by decide), if_neg (by decide)]
/-- an image taken, and laid back -/
def cpN (a c n : Nat) (α : mS) : mS := fun k j => if k = a ∧ j < n then α c j else α k j
def imaS (α : mS) : mS := up (up (up (up (up (cpN 32 12 24 (cpN 31 10 8 α)) 0 33 (α 0 13)) 0 34 (α 0 7)) 0 35 (α 0 8)) 0 36 (α 0 9)) 0 37 (α 0 4)
def bacR (α : mS) : Int32 := if α 0 33 = -1 then -3 else α 0 33
def bacS (α : mS) : mS := if α 0 33 = -1 then α else up (up (up (up (up (cpN 12 32 24 (cpN 10 31 8 α)) 0 13 (α 0 33)) 0 7 (α 0 34)) 0 8 (α 0 35)) 0 9 (α 0 36)) 0 4 (α 0 37)
theorem asJ_cp {a c n j : Nat} {σ s : mS} (hs : asJ a c σ s j) (h1 : n ≤ j) (h2 : j ≤ n) : s = cpN a c n σ := by
  have e : j = n := by omega
  subst e
  funext k i
  exact hs k i
theorem cp_ab {a c n : Nat} {σ : mS} (ha : a ≠ 0) (hc : c ≠ 0) : ab (cpN a c n σ) = cpN a c n (ab σ) := by
  funext k j
  by_cases h : k = a ∧ j < n
  · obtain ⟨rfl, h2⟩ := h
    have e1 : scr k j = false := by unfold scr; simp [ha]
    have e2 : scr c j = false := by unfold scr; simp [hc]
    rw [ab_rd k j e1]
    unfold cpN
    rw [if_pos ⟨rfl, h2⟩, if_pos ⟨rfl, h2⟩, ab_rd c j e2]
  · have e : cpN a c n σ k j = σ k j := by unfold cpN; rw [if_neg h]
    have e2 : cpN a c n (ab σ) k j = ab σ k j := by unfold cpN; rw [if_neg h]
    rw [e2]; unfold ab; rw [e]
/-- sheets -/
def wfS (α : mS) : Prop := ∀ q, q < 4 → (α 38 q = 0 ∨ α 38 q = 1) ∧ (α 38 q = 1 → okN (α 40 q) 40 ∧ (α 39 q = 0 ∨ α 39 q = 1 ∨ α 39 q = 2))
def zerN (q n : Nat) (α : mS) : mS := fun k j => if k = 41 ∧ (40 * q ≤ j ∧ j < 40 * q + n) then 0 else α k j
def shtB (α : mS) (q : Nat) (so n : Int32) : mS := up (up (up α 38 q (if so < 0 then 0 else 1)) 39 q so) 40 q n
def shtS (α : mS) (q : Nat) (so n : Int32) : mS := if so < 0 then shtB α q so n else zerN q (tn n) (shtB α q so n)
abbrev sheB (q so n : Int32) : Prop := ¬ (0 ≤ q ∧ q ≤ 3) ∨ ¬ (-1 ≤ so ∧ so ≤ 2) ∨ (¬ so < 0 ∧ ¬ n ≤ 40)
def sheR (q so n : Int32) : Int32 := if sheB q so n then -2 else if ¬ so < 0 ∧ ¬ 0 ≤ n then -14 else 1
def sheS (α : mS) (q so n : Int32) : mS := if sheB q so n then α else if ¬ so < 0 ∧ ¬ 0 ≤ n then α else shtS α (tn q) so n
def zJ (q : Nat) (σ s : mS) (j : Nat) : Prop := ∀ k i, s k i = if k = 41 ∧ (40 * q ≤ i ∧ i < 40 * q + j) then 0 else σ k i
theorem zJ_0 {q : Nat} {σ : mS} : zJ q σ σ 0 := fun k i => by rw [if_neg (by omega)]
theorem zJ_s {q j : Nat} {σ s : mS} (h : zJ q σ s j) : zJ q σ (up s 41 (40 * q + j) 0) (j + 1) := by
  intro k i
  by_cases d : k = 41 ∧ i = 40 * q + j
  · obtain ⟨rfl, rfl⟩ := d
    rw [up_eq, if_pos (by omega)]
  · rw [up_ne d, h]
    by_cases e : k = 41 ∧ (40 * q ≤ i ∧ i < 40 * q + j)
    · rw [if_pos e, if_pos (by omega)]
    · rw [if_neg e, if_neg (by omega)]
theorem zJ_e {q j n : Nat} {σ s : mS} (h : zJ q σ s j) (h1 : n ≤ j) (h2 : j ≤ n) : s = zerN q n σ := by
  have e : j = n := by omega
  subst e
  funext k i
  exact h k i
theorem zer_ab {q n : Nat} {σ : mS} : ab (zerN q n σ) = zerN q n (ab σ) := by
  funext k j
  unfold ab zerN
  by_cases h : k = 41 ∧ (40 * q ≤ j ∧ j < 40 * q + n)
  · rw [if_pos h, if_pos h]; split <;> rfl
  · rw [if_neg h, if_neg h]
theorem shtB_ab {q : Nat} {so n : Int32} {σ : mS} : ab (shtB σ q so n) = shtB (ab σ) q so n := by
  unfold shtB
  rw [ab_u rfl, ab_u rfl, ab_u rfl]
def narV (so v : Int32) : Int32 := if so = 0 then Int8.toInt32 (Int32.toInt8 v) else if so = 1 then Int16.toInt32 (Int32.toInt16 v) else v
def celR (α : mS) (q i : Int32) : Int32 := if ¬ (0 ≤ q ∧ q ≤ 3) then -2 else if α 38 (tn q) = 0 then -11 else if ¬ (0 ≤ i ∧ i ≤ α 40 (tn q) - 1) then -12 else 1
def celS (α : mS) (q i v : Int32) : mS := if celR α q i = 1 then up α 41 (40 * tn q + tn i) (narV (α 39 (tn q)) v) else α
theorem sz_of {o x : Int32} (hx : okN x 40) (h : 0 ≤ o ∧ o ≤ x - 1) : ∃ p, p < tn x ∧ o = nI p := by
  obtain ⟨h1, h2⟩ := hx
  generalize tn x = m at h1 h2
  cases m with
  | zero => subst h1; exact absurd (show (0 : Int32) ≤ nI 0 - 1 by have := h.1; have := h.2; grind) (by decide)
  | succ m =>
    rw [h1, nI_pred] at h
    obtain ⟨p, hp, e⟩ := nI_of2 (M := nI m) (n := m) (nI_toInt (by omega)) (by have := h.1; grind) h.2
    exact ⟨p, by omega, e⟩
/-- what was filmed -/
def filS (α : mS) (q p n : Nat) : mS := fun k j => if k = 41 ∧ (40 * q ≤ j ∧ j < 40 * q + n) then yrs α (j - 40 * q + 1) 12 (3 * p + 2) else shtB α q 2 (nI n) k j
