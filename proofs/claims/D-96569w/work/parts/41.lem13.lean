/-! plain meaning and steps: plantings out of sheets, texts, told counts -/
set_option maxRecDepth 100000
/-- plantings out of a sheet: n more from the k-th on; c have come -/
def plsG (q : Nat) (a : Int32) : Nat → Nat → mS → Int32 → Int32 × mS
  | 0, _, β, c => (c, β)
  | n + 1, k, β, c => if a < 0 ∨ β 40 q - nI (3 * k) - 3 < a then (-12, β) else
      plsG q a n (k + 1) (plaS β (β 41 (40 * q + tn a + 3 * k)) (β 41 (40 * q + tn a + 3 * k + 1)) (β 41 (40 * q + tn a + 3 * k + 2)))
        (c + (if plaR β (β 41 (40 * q + tn a + 3 * k)) (β 41 (40 * q + tn a + 3 * k + 1)) (β 41 (40 * q + tn a + 3 * k + 2)) < 0 then 0 else 1))
abbrev plsOK (q so n : Int32) : Prop := (0 ≤ q ∧ q ≤ 3) ∧ (0 ≤ so ∧ so ≤ 2) ∧ (0 ≤ n ∧ n ≤ 8)
def plsR (α : mS) (q so a n : Int32) : Int32 := if ¬ plsOK q so n then -2 else if α 38 (tn q) = 0 then -11 else if ¬ α 39 (tn q) = so then -13 else (plsG (tn q) a (tn n) 0 α 0).1
def plsS (α : mS) (q so a n : Int32) : mS := if ¬ plsOK q so n then α else if α 38 (tn q) = 0 then α else if ¬ α 39 (tn q) = so then α else (plsG (tn q) a (tn n) 0 α 0).2
theorem pls_nat {x a : Int32} {k : Nat} (hx : okN x 40) (hk : k < 8) (ha : ¬ a < 0) (h : ¬ x - nI (3 * k) - 3 < a) : ∃ m, a = nI m ∧ m + 3 * k + 3 ≤ tn x := by
  obtain ⟨h1, h2⟩ := hx
  obtain ⟨m, hm, rfl⟩ := nI_of ha
  refine ⟨m, rfl, ?_⟩
  rw [h1, Int32.lt_iff_toInt_lt, nI_toInt hm] at h
  have e : (nI (tn x) - nI (3 * k) - 3).toInt = (tn x : Int) - 3 * k - 3 := by
    have e1 : (nI (tn x) - nI (3 * k)).toInt = (tn x : Int) - 3 * k := by
      rw [Int32.toInt_sub, nI_toInt (by omega), nI_toInt (by omega), Int.bmod_def]
      split <;> omega
    rw [Int32.toInt_sub, e1, show (3 : Int32).toInt = 3 by decide, Int.bmod_def]
    split <;> omega
  rw [e] at h
  omega
theorem pla_rd {α : mS} {k n g : Int32} {a j : Nat} (h : a ≠ 11) (h1 : a ≠ 12) (h2 : a ≠ 0) : plaS α k n g a j = α a j := by
  unfold plaS
  split
  · rfl
  · split
    · rfl
    · exact com_rd (by omega)
theorem wf_pla {α : mS} {k n g : Int32} (h : Wf α) : Wf (plaS α k n g) := by
  unfold plaS
  split
  · exact h
  · rename_i h1
    split
    · exact h
    · rename_i h2
      have hok : plOK k n g := Decidable.not_not.mp h1
      obtain ⟨m, hm, rfl⟩ := in_of (M := 7) (n := 7) (by decide) hok.2.2
      exact wf_com h (plt8 h.1.1.1 h.1.1.2 h2) (by omega) (by decide)
theorem plsG_b {q k n : Nat} {a c : Int32} {β : mS} (h : a < 0 ∨ β 40 q - nI (3 * k) - 3 < a) : plsG q a (n + 1) k β c = (-12, β) := if_pos h
theorem plsG_s {q k n m : Nat} {a c : Int32} {β : mS} (h : ¬ (a < 0 ∨ β 40 q - nI (3 * k) - 3 < a)) (hm : tn a = m) : plsG q a (n + 1) k β c = plsG q a n (k + 1) (plaS β (β 41 (40 * q + m + 3 * k)) (β 41 (40 * q + m + 3 * k + 1)) (β 41 (40 * q + m + 3 * k + 2)))
    (c + (if plaR β (β 41 (40 * q + m + 3 * k)) (β 41 (40 * q + m + 3 * k + 1)) (β 41 (40 * q + m + 3 * k + 2)) < 0 then 0 else 1)) := by
  subst hm; exact if_neg h
/-- a text taken off the tape -/
def texO (α : mS) : mS := up (up (fun k j => if k = 1 ∧ (160 * tn (α 0 3) ≤ j ∧ j < 160 * tn (α 0 3) + tn (α 0 6)) then α 5 (j - 160 * tn (α 0 3)) else α k j) 2 (tn (α 0 3)) (α 0 6)) 0 6 0
def texR (α : mS) : Int32 := if α 0 3 = 6 then -4 else match rdG (fun i => α 5 i) (tn (α 0 6)) with | .inl e => -100 - nI e | .inr _ => α 0 3
def texS (α : mS) : mS := if α 0 3 = 6 then α else match rdG (fun i => α 5 i) (tn (α 0 6)) with | .inl _ => texO α | .inr _ => up (texO α) 0 3 (nI (tn (α 0 3) + 1))
def txJ (σ s : mS) (c j : Nat) : Prop := ∀ k i, s k i = if k = 1 ∧ (160 * c ≤ i ∧ i < 160 * c + j) then σ 5 (i - 160 * c) else σ k i
theorem txJ_0 {σ : mS} {c : Nat} : txJ σ σ c 0 := fun k i => by rw [if_neg (by omega)]
theorem txJ_s {σ s : mS} {c j : Nat} (h : txJ σ s c j) : txJ σ (up s 1 (160 * c + j) (s 5 j)) c (j + 1) := by
  intro k i
  have e5 : s 5 j = σ 5 j := by rw [h, if_neg (by omega)]
  by_cases d : k = 1 ∧ i = 160 * c + j
  · obtain ⟨rfl, rfl⟩ := d
    rw [up_eq, if_pos (by omega), e5, show 160 * c + j - 160 * c = j by omega]
  · rw [up_ne d, h]
    by_cases e : k = 1 ∧ (160 * c ≤ i ∧ i < 160 * c + j)
    · rw [if_pos e, if_pos (by omega)]
    · rw [if_neg e, if_neg (by omega)]
theorem txJ_ab {σ s : mS} {j : Nat} {x : Int32} (h : txJ σ s (tn (σ 0 3)) j) (h1 : tn (σ 0 6) ≤ j) (h2 : j ≤ tn (σ 0 6)) (hx : x = σ 0 6) : ab (up (up s 2 (tn (σ 0 3)) x) 0 6 0) = texO (ab σ) := by
  have e : j = tn (σ 0 6) := by omega
  subst e
  rw [ab_u rfl, ab_u rfl, hx]
  unfold texO
  congr 2
  funext k i
  by_cases c : k = 1
  · subst c
    rw [ab_rd 1 i rfl, h]
    rfl
  · show ab s k i = if k = 1 ∧ _ then _ else ab σ k i
    rw [if_neg (fun g => c g.1)]
    have e : s k i = σ k i := by rw [h, if_neg (fun g => c g.1)]
    unfold ab
    rw [e]
/-- counts that were told: what could have been so -/
def tesN (α : mS) (s p k : Nat) : Nat → Int32 × Int32 × Int32
  | 0 => (0, 0, -1)
  | v + 1 => if othV (layS α k p (nI v)) s p = -1 then ((tesN α s p k v).1 ||| (if k = 5 then (0 : Int32) else (1 : Int32) <<< (nI v &&& 31)), (tesN α s p k v).2.1 + 1, if (tesN α s p k v).2.2 = -1 then nI v else (tesN α s p k v).2.2) else tesN α s p k v
abbrev tesOK (α : mS) (q o w : Int32) : Prop := (0 ≤ q ∧ q ≤ 3) ∧ (0 ≤ o ∧ o ≤ α 0 13 - 1) ∧ (0 ≤ w ∧ w ≤ 6)
def tesR (α : mS) (q o w : Int32) : Int32 := if ¬ tesOK α q o w then -2 else if α 38 (tn q) = 0 then -11 else if 30 < α 40 (tn q) then -2 else
  if w = 0 then othV α (tn q) (tn o) else if w = 1 then (tesN α (tn q) (tn o) 6 6).1 else if w = 2 then (tesN α (tn q) (tn o) 3 10).1 else if w = 3 then (tesN α (tn q) (tn o) 4 8).1 else if w = 4 then (tesN α (tn q) (tn o) 5 100).2.1 else if w = 5 then (tesN α (tn q) (tn o) 5 100).2.2 else (tesN α (tn q) (tn o) 7 (tn (α 0 3))).1
/-- s is σ but for what is laid at (k, p) -/
def laid (σ s : mS) (k p : Nat) : Prop := ∀ x, nb (layS s k p x) = nb (layS σ k p x)
theorem laid.rf {σ : mS} {k p : Nat} : laid σ σ k p := fun _ => rfl
theorem lay_lay {σ : mS} {k p : Nat} {x y : Int32} : layS (layS σ k p x) k p y = layS σ k p y := by
  unfold layS
  repeat' split
  all_goals exact up_up
theorem lay_nb {σ s : mS} {k p : Nat} {x : Int32} (h : nb s = nb σ) : nb (layS s k p x) = nb (layS σ k p x) := by
  unfold layS
  repeat' split
  all_goals exact nb_u h rfl rfl
theorem laid.next {σ s t : mS} {k p : Nat} {x : Int32} (h : laid σ s k p) (ht : nb t = nb (layS s k p x)) : laid σ t k p := by
  intro y
  rw [lay_nb ht, lay_lay]
  exact h y
theorem tes_val {σ s : mS} {q k p v : Nat} (h : laid σ s k p) : othV (ab (layS s k p (nI v))) q p = othV (layS (ab σ) k p (nI v)) q p := by
  rw [othV_eq2 (show na (ab (layS s k p (nI v))) = na (ab (layS σ k p (nI v))) from h (nI v)), lay_ab]
theorem wf_lay {α : mS} {k p v : Nat} (h : Wf α) (hk : 3 ≤ k) (hk7 : k ≤ 7) (hv : v ≤ 99) (h4 : k = 4 → v < 8) (h7 : k = 7 → v < tn (α 0 3)) : Wf (layS α k p (nI v)) := by
  rcases (show k = 3 ∨ k = 4 ∨ k = 5 ∨ k = 6 ∨ k = 7 by omega) with rfl | rfl | rfl | rfl | rfl
  · obtain ⟨h1, h2, h3⟩ := h
    have e : layS α 3 p (nI v) = up α 12 (3 * p) (nI v) := by unfold layS; simp
    rw [e]
    refine ⟨h1, fun q hq => ?_, h3⟩
    rw [up_ne (by omega), up_ne (by omega)]
    exact h2 q hq
  · have e : layS α 4 p (nI v) = up α 12 (3 * p + 1) (nI v) := by unfold layS; simp
    rw [e]
    obtain ⟨h1, h2, h3⟩ := h
    refine ⟨h1, fun q hq => ?_, h3⟩
    by_cases c : q = p
    · subst c; rw [up_eq, up_ne (by omega)]; exact ⟨okN_of (by have := h4 rfl; omega) (by decide), (h2 q hq).2⟩
    · rw [up_ne (by omega), up_ne (by omega)]; exact h2 q hq
  · have e : layS α 5 p (nI v) = up α 12 (3 * p + 2) (nI v) := by unfold layS; simp
    rw [e]
    exact wf_cnt h ⟨nI_pos' (by omega), nI_le (b := 9999) (by omega) (by decide)⟩
  · have e : layS α 6 p (nI v) = up α 11 p (nI v) := by unfold layS; simp
    rw [e]; exact h
  · have e : layS α 7 p (nI v) = up α 0 4 (nI v) := by unfold layS; simp
    rw [e]
    obtain ⟨⟨h1, h1b, h1c⟩, h2, h3⟩ := h
    refine ⟨⟨h1, h1b, ?_⟩, h2, h3⟩
    show nI v = nI (tn (nI v)) ∧ tn (nI v) < tn (α 0 3)
    rw [tn_nI (by omega)]
    exact ⟨rfl, h7 rfl⟩
theorem tes_wf {σ s : mS} {k p v : Nat} (hl : laid σ s k p) (h : Wf (ab σ)) (hk : 3 ≤ k) (hk7 : k ≤ 7) (hv : v ≤ 99) (h4 : k = 4 → v < 8) (h7 : k = 7 → v < tn (σ 0 3)) : Wf (ab (layS s k p (nI v))) := by
  refine wf_na.mp ?_
  show Wf (nb (layS s k p (nI v)))
  rw [hl]
  show Wf (na (ab (layS σ k p (nI v))))
  refine wf_na.mpr ?_
  rw [lay_ab]
  exact wf_lay h hk hk7 hv h4 h7
theorem lay_13 {σ s : mS} {k p : Nat} {x : Int32} (hl : laid σ s k p) : layS s k p x 0 13 = σ 0 13 := by
  have := nb_rd (hl x) 0 13 rfl rfl
  rw [this]; unfold layS
  repeat' split
  all_goals rfl
theorem lay_40 {σ s : mS} {k p q : Nat} {x : Int32} (hl : laid σ s k p) : layS s k p x 40 q = σ 40 q := by
  have := nb_rd (hl x) 40 q rfl rfl
  rw [this]; unfold layS
  repeat' split
  all_goals rfl
theorem tes_t {α : mS} {s p k v : Nat} {a c d : Int32} (hx : (a, c, d) = tesN α s p k v) (h : othV (layS α k p (nI v)) s p = -1) : (a ||| (if k = 5 then (0 : Int32) else (1 : Int32) <<< (nI v &&& 31)), c + 1, if d = -1 then nI v else d) = tesN α s p k (v + 1) := by
  show _ = (if _ then _ else _)
  rw [if_pos h, ← hx]
theorem tes_f {α : mS} {s p k v : Nat} {a c d : Int32} (hx : (a, c, d) = tesN α s p k v) (h : ¬ othV (layS α k p (nI v)) s p = -1) : (a, c, d) = tesN α s p k (v + 1) := by
  show _ = (if _ then _ else _)
  rw [if_neg h, ← hx]
theorem lay_self {σ : mS} {k p : Nat} {x : Int32} (hk : 3 ≤ k) (hk7 : k ≤ 7) (hx : x = if k = 6 then σ 11 p else if k = 7 then σ 0 4 else σ 12 (3 * p + k - 3)) : layS σ k p x = σ := by
  subst hx
  unfold layS
  rcases (show k = 3 ∨ k = 4 ∨ k = 5 ∨ k = 6 ∨ k = 7 by omega) with rfl | rfl | rfl | rfl | rfl <;> (simp; exact up_self rfl)
theorem plt6 {x : Int32} {m : Nat} (hx : x = nI m) (hm : m ≤ 6) (h : ¬ x = 6) : m < 6 := by
  rcases Nat.lt_or_ge m 6 with g | g
  · exact g
  · exact absurd (by rw [hx, show m = 6 by omega]; rfl) h
theorem she_13 {α : mS} {q so n : Int32} : sheS α q so n 0 13 = α 0 13 := by
  unfold sheS
  split
  · rfl
  · split
    · rfl
    · unfold shtS
      split <;> rfl
