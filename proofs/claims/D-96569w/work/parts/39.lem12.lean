/-! plain meaning and steps: films, copies, plantings out of sheets, texts, told counts -/
set_option maxRecDepth 100000
def ov41 (f : Nat → Int32) (α : mS) : mS := fun k i => if k = 41 then f i else α k i
theorem ov_up {f : Nat → Int32} {α : mS} {k j : Nat} {x : Int32} (hk : k ≠ 41) : ov41 f (up α k j x) = up (ov41 f α) k j x := by
  funext a c
  unfold ov41 up
  by_cases h : a = 41
  · subst h; simp [Ne.symm hk]
  · simp [h]
theorem ov_rd {f : Nat → Int32} {α : mS} {i : Nat} : ov41 f α 41 i = f i := if_pos rfl
theorem ov_liv1 {f : Nat → Int32} {α : mS} {p : Nat} : ov41 f (liv1 α p) = liv1 (ov41 f α) p := by unfold liv1; rw [ov_up (by decide)]; rfl
theorem ov_livN {f : Nat → Int32} {α : mS} : ∀ n, ov41 f (livN α n) = livN (ov41 f α) n := by
  intro n
  induction n with
  | zero => rfl
  | succ n ih => show ov41 f (liv1 (livN α n) n) = liv1 (livN (ov41 f α) n) n; rw [ov_liv1, ih]
theorem ov_livS {f : Nat → Int32} {α : mS} : ov41 f (livS α) = livS (ov41 f α) := by
  unfold livS
  rw [ov_up (by decide), ov_livN]
  show up (livN (ov41 f α) (tn (α 0 13))) 0 7 (ov41 f (livN α (tn (α 0 13))) 0 7 + 1) = _
  rw [ov_livN]; rfl
theorem ov_wf {f : Nat → Int32} {α : mS} : Wf (ov41 f α) ↔ Wf α := Iff.rfl
theorem ov_self {f : Nat → Int32} {α : mS} (h : ∀ i, f i = α 41 i) : ov41 f α = α := by
  funext k i
  unfold ov41
  by_cases c : k = 41
  · subst c; rw [if_pos rfl]; exact h i
  · rw [if_neg c]
theorem ov_put {f g : Nat → Int32} {α : mS} {j : Nat} {x : Int32} (h : ∀ i, g i = if i = j then x else f i) : up (ov41 f α) 41 j x = ov41 g α := by
  funext k i
  unfold up ov41
  by_cases c : k = 41
  · subst c; rw [if_pos rfl, if_pos rfl, if_pos rfl, h i]
  · rw [if_neg c, if_neg c, if_neg c]
theorem ov_bck {f : Nat → Int32} {α : mS} : bck (ov41 f α) = ov41 f (bck α) := by
  funext k j
  unfold bck ov41
  by_cases c : k = 12
  · subst c; simp
  · by_cases d : k = 0 ∧ j = 7
    · obtain ⟨rfl, rfl⟩ := d; simp
    · by_cases e : k = 41
      · subst e; simp
      · simp [c, d, e]
theorem ov_na {f : Nat → Int32} {α : mS} : na (ov41 f α) = ov41 f (na α) := by
  funext k j
  unfold na ov41
  by_cases e : k = 41
  · subst e; rfl
  · rw [if_neg e, if_neg e]
/-- the film's places: so many years -/
def filF (β : mS) (q p j : Nat) : Nat → Int32 := fun i => if 40 * q ≤ i ∧ i < 40 * q + j then yrs β (i - 40 * q + 1) 12 (3 * p + 2) else β 41 i
theorem fil_0 {β : mS} {q p : Nat} : ov41 (filF β q p 0) β = β := ov_self (fun i => by unfold filF; rw [if_neg (by omega)])
theorem fil_s {β : mS} {q p j : Nat} : up (ov41 (filF β q p j) (yrs β (j + 1))) 41 (40 * q + j) (yrs β (j + 1) 12 (3 * p + 2)) = ov41 (filF β q p (j + 1)) (yrs β (j + 1)) := by
  refine ov_put (fun i => ?_)
  unfold filF
  by_cases c : i = 40 * q + j
  · subst c; rw [if_pos rfl, if_pos (by omega), show 40 * q + j - 40 * q = j by omega]
  · rw [if_neg c]
    by_cases d : 40 * q ≤ i ∧ i < 40 * q + j
    · rw [if_pos d, if_pos (by omega)]
    · rw [if_neg d, if_neg (by omega)]
abbrev filOK (α : mS) (q o n : Int32) : Prop := (0 ≤ q ∧ q ≤ 3) ∧ (0 ≤ o ∧ o ≤ α 0 13 - 1) ∧ (0 ≤ n ∧ n ≤ 30)
def filR (α : mS) (q o n : Int32) : Int32 := if filOK α q o n then n else -2
def filT (α : mS) (q o n : Int32) : mS := if filOK α q o n then ov41 (filF (sheS α q 2 n) (tn q) (tn o) (tn n)) (sheS α q 2 n) else α
theorem she_wf {α : mS} {q so n : Int32} (h : Wf α) : Wf (sheS α q so n) := by
  unfold sheS
  split
  · exact h
  · split
    · exact h
    · unfold shtS
      split
      · exact h
      · exact h
theorem filF_eq {α β : mS} (h : na α = na β) (q p n : Nat) : filF α q p n = filF β q p n := by
  funext i
  unfold filF
  rw [yrs_rd h _ 12 _ rfl, na_eq h 41 i rfl]
theorem fil_end {σ' u s : mS} {α' : mS} {q p n j : Nat} (hw : Wf α') (hs : ab s = ov41 (filF (asd α') q p j) (yrs (asd α') j)) (h1 : n ≤ j) (h2 : j ≤ n) (hu : ab u = bck (ab s)) : nb u = na (ov41 (filF α' q p n) α') := by
  have e : j = n := by omega
  subst e
  unfold nb
  rw [hu, hs, ov_bck, bck_yrs hw, ov_na, na_asd, ov_na, filF_eq na_asd]
/-- copies between sheets -/
def cpyF (α : mS) (s i o j n : Nat) : Nat → Int32 := fun x => if 40 * o + j ≤ x ∧ x < 40 * o + j + n then α 41 (40 * s + i + (x - (40 * o + j))) else α 41 x
/-- upwards so many; downwards so many -/
def cpU (σ s' : mS) (s i o j k : Nat) : Prop := s' = ov41 (fun x => if 40 * o + j ≤ x ∧ x < 40 * o + j + k then σ 41 (40 * s + i + (x - (40 * o + j))) else σ 41 x) σ
def cpD (σ s' : mS) (s i o j n k : Nat) : Prop := s' = ov41 (fun x => if 40 * o + j + (n - k) ≤ x ∧ x < 40 * o + j + n then σ 41 (40 * s + i + (x - (40 * o + j))) else σ 41 x) σ
theorem cpU_0 {σ : mS} {s i o j : Nat} : cpU σ σ s i o j 0 := (ov_self (fun x => by rw [if_neg (by omega)])).symm
theorem cpD_0 {σ : mS} {s i o j n : Nat} : cpD σ σ s i o j n 0 := (ov_self (fun x => by rw [if_neg (by omega)])).symm
theorem cpU_s {σ s' : mS} {s i o j k : Nat} (h : cpU σ s' s i o j k) (hd : (s = o ∧ j ≤ i) ∨ (s ≠ o ∧ i + k < 40 ∧ j + k < 40)) : cpU σ (up s' 41 (40 * o + j + k) (s' 41 (40 * s + i + k))) s i o j (k + 1) := by
  have hv : s' 41 (40 * s + i + k) = σ 41 (40 * s + i + k) := by
    rw [show s' = _ from h, ov_rd]
    exact if_neg (by omega)
  rw [hv, h]
  refine ov_put (fun x => ?_)
  by_cases c : x = 40 * o + j + k
  · subst c; rw [if_pos rfl, if_pos (by omega), show 40 * o + j + k - (40 * o + j) = k by omega]
  · rw [if_neg c]
    by_cases d : 40 * o + j ≤ x ∧ x < 40 * o + j + k
    · rw [if_pos d, if_pos (by omega)]
    · rw [if_neg d, if_neg (by omega)]
theorem cpD_s {σ s' : mS} {s i o j n k : Nat} (h : cpD σ s' s i o j n k) (hk : k < n) (hd : s = o ∧ i < j) : cpD σ (up s' 41 (40 * o + j + (n - 1 - k)) (s' 41 (40 * s + i + (n - 1 - k)))) s i o j n (k + 1) := by
  have hv : s' 41 (40 * s + i + (n - 1 - k)) = σ 41 (40 * s + i + (n - 1 - k)) := by
    rw [show s' = _ from h, ov_rd]
    exact if_neg (by omega)
  rw [hv, h]
  refine ov_put (fun x => ?_)
  by_cases c : x = 40 * o + j + (n - 1 - k)
  · subst c; rw [if_pos rfl, if_pos (by omega), show 40 * o + j + (n - 1 - k) - (40 * o + j) = n - 1 - k by omega]
  · rw [if_neg c]
    by_cases d : 40 * o + j + (n - k) ≤ x ∧ x < 40 * o + j + n
    · rw [if_pos d, if_pos (by omega)]
    · rw [if_neg d, if_neg (by omega)]
theorem cpU_e {σ s' : mS} {s i o j k n : Nat} (h : cpU σ s' s i o j k) (h1 : n ≤ k) (h2 : k ≤ n) : s' = ov41 (cpyF σ s i o j n) σ := by
  have e : k = n := by omega
  subst e; exact h
theorem cpD_e {σ s' : mS} {s i o j k n : Nat} (h : cpD σ s' s i o j n k) (h1 : n ≤ k) (h2 : k ≤ n) : s' = ov41 (cpyF σ s i o j n) σ := by
  have e : k = n := by omega
  subst e
  rw [h]
  congr 1
  funext x
  rw [Nat.sub_self, Nat.add_zero]; rfl
theorem cpy_ab {σ : mS} {s i o j n : Nat} : ab (ov41 (cpyF σ s i o j n) σ) = ov41 (cpyF (ab σ) s i o j n) (ab σ) := by
  funext k x
  by_cases c : k = 41
  · subst c; rfl
  · unfold ab ov41
    rw [if_neg c, if_neg c]
abbrev copB (α : mS) (s i o j n : Int32) : Prop := n < 0 ∨ i < 0 ∨ j < 0 ∨ α 40 (tn s) - n < i ∨ α 40 (tn o) - n < j
def copR (α : mS) (s i o j n : Int32) : Int32 := if ¬ ((0 ≤ s ∧ s ≤ 3) ∧ (0 ≤ o ∧ o ≤ 3)) then -2 else if α 38 (tn s) = 0 ∨ α 38 (tn o) = 0 then -11 else if ¬ α 39 (tn s) = α 39 (tn o) then -13 else if copB α s i o j n then -12 else n
def copS (α : mS) (s i o j n : Int32) : mS := if ¬ ((0 ≤ s ∧ s ≤ 3) ∧ (0 ≤ o ∧ o ≤ 3)) then α else if α 38 (tn s) = 0 ∨ α 38 (tn o) = 0 then α else if ¬ α 39 (tn s) = α 39 (tn o) then α else if copB α s i o j n then α else ov41 (cpyF α (tn s) (tn i) (tn o) (tn j) (tn n)) α
theorem cop_nat {x i n : Int32} (hx : okN x 40) (hn : ¬ n < 0) (hi : ¬ i < 0) (h : ¬ x - n < i) : ∃ a c, i = nI a ∧ n = nI c ∧ a + c ≤ tn x := by
  obtain ⟨h1, h2⟩ := hx
  obtain ⟨a, ha, rfl⟩ := nI_of hi
  obtain ⟨c, hc, rfl⟩ := nI_of hn
  refine ⟨a, c, rfl, rfl, ?_⟩
  rw [h1, Int32.lt_iff_toInt_lt] at h
  rw [nI_toInt ha] at h
  have e : (nI (tn x) - nI c).toInt = (tn x : Int) - c := by
    rw [Int32.toInt_sub, nI_toInt (by omega), nI_toInt hc]
    rw [Int.bmod_def]
    split <;> omega
  rw [e] at h
  omega
