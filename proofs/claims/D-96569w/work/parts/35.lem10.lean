/-! plain steps for sown, told counts, winters by lot -/
set_option maxRecDepth 100000
theorem bck_only {α β : mS} (h : Wf α) (hr : onlyR (asd α) β) : bck β = asd α := by
  have hM : tn (asd α 0 13) ≤ 8 := h.1.1.2
  funext k j
  unfold bck
  by_cases c : k = 12
  · subst c
    rw [if_pos rfl]
    by_cases d : j < 24
    · rw [if_pos d, hr 29 j (by omega) (by omega)]
      unfold asd; rw [if_pos rfl, if_pos d]; rfl
    · rw [if_neg d]
      exact hr 12 j (fun ⟨_, p, hp, hj⟩ => by omega) (by omega)
  · rw [if_neg c]
    by_cases d : k = 0 ∧ j = 7
    · rw [if_pos d, hr 0 30 (by omega) (by omega)]
      obtain ⟨rfl, rfl⟩ := d
      rfl
    · rw [if_neg d]
      exact hr k j (fun g => c g.1) d
theorem nb_back2 {σ u s : mS} (hw : Wf (ab σ)) (hr : onlyR (asd (ab σ)) (ab s)) (hu : ab u = bck (ab s)) : nb u = nb σ := by
  unfold nb
  rw [hu, bck_only hw hr, na_asd]
theorem com_rd {α : mS} {k n g c : Int32} {a j : Nat} (h : ¬ (a = 11 ∧ j = tn (α 0 13)) ∧ ¬ (a = 12 ∧ (j = 3 * tn (α 0 13) ∨ j = 3 * tn (α 0 13) + 1 ∨ j = 3 * tn (α 0 13) + 2)) ∧ ¬ (a = 0 ∧ j = 13)) : comS α k n g c a j = α a j := by
  unfold comS
  rw [up_ne (by omega), up_ne (by omega), up_ne (by omega), up_ne (by omega), up_ne (by omega)]
theorem wf_com {α : mS} {k n c : Int32} {g : Nat} (h : Wf α) (hM : tn (α 0 13) < 8) (hg : g < 8) (hc : 0 ≤ c ∧ c ≤ 9999) : Wf (comS α k n (nI g) c) := by
  obtain ⟨⟨h1, h1b, h1c⟩, h2, h3⟩ := h
  have e13 : comS α k n (nI g) c 0 13 = nI (tn (α 0 13) + 1) := up_eq
  have t13 : tn (comS α k n (nI g) c 0 13) = tn (α 0 13) + 1 := by rw [e13, tn_nI (by omega)]
  refine ⟨⟨?_, ?_, ?_⟩, ?_, ?_⟩
  · rw [e13]; exact okN_of (by omega) (by decide)
  · rw [com_rd (by omega)]; exact h1b
  · rw [com_rd (a := 0) (j := 4) (by omega), com_rd (a := 0) (j := 3) (by omega)]; exact h1c
  · intro q hq
    rw [t13] at hq
    by_cases d : q = tn (α 0 13)
    · subst d
      have e1 : comS α k n (nI g) c 12 (3 * tn (α 0 13) + 1) = nI g := by unfold comS; rw [up_ne (by omega), up_ne (by omega), up_eq]
      have e2 : comS α k n (nI g) c 12 (3 * tn (α 0 13) + 2) = c := by unfold comS; rw [up_ne (by omega), up_eq]
      rw [e1, e2]
      exact ⟨okN_of (by omega) (by decide), hc⟩
    · rw [com_rd (a := 12) (j := 3 * q + 1) (by omega), com_rd (a := 12) (j := 3 * q + 2) (by omega)]
      exact h2 q (by omega)
  · intro t ht
    rw [com_rd (a := 0) (j := 3) (by omega)] at ht
    have e1 : (fun i => comS α k n (nI g) c 1 (160 * t + i)) = fun i => α 1 (160 * t + i) := by funext i; exact com_rd (by omega)
    rw [com_rd (a := 2) (j := t) (by omega), e1]
    obtain ⟨g1, g2, g3⟩ := h3 t ht
    exact ⟨g1, fun i hi => by rw [com_rd (a := 1) (by omega)]; exact g2 i hi, g3⟩
/-- s is σ but for a planting beyond the last -/
def beyo (σ s : mS) : Prop := ∀ a j, asi a j = false → scr a j = false → ¬ (a = 11 ∧ j = tn (σ 0 13)) → ¬ (a = 12 ∧ (j = 3 * tn (σ 0 13) ∨ j = 3 * tn (σ 0 13) + 1 ∨ j = 3 * tn (σ 0 13) + 2)) → s a j = σ a j
theorem beyo.rf {σ : mS} : beyo σ σ := fun _ _ _ _ _ _ => rfl
theorem beyo.M {σ s : mS} (h : beyo σ s) : s 0 13 = σ 0 13 := h 0 13 rfl rfl (by omega) (by omega)
theorem nb_ext {σ s : mS} (h : ∀ a j, asi a j = false → scr a j = false → s a j = σ a j) : nb s = nb σ := by
  funext a j
  unfold nb na ab
  by_cases c : asi a j = true
  · rw [if_pos c, if_pos c]
  · rw [if_neg c, if_neg c]
    by_cases d : scr a j = true
    · rw [if_pos d, if_pos d]
    · rw [if_neg d, if_neg d]
      exact h a j (by simpa using c) (by simpa using d)
theorem beyo.com {σ s : mS} (h : beyo σ s) (k n g c : Int32) : nb (comS s k n g c) = nb (comS σ k n g c) := by
  apply nb_ext
  intro a j h1 h2
  have hM := h.M
  unfold comS
  rw [hM]
  by_cases c0 : a = 0 ∧ j = 13
  · obtain ⟨rfl, rfl⟩ := c0; rw [up_eq, up_eq]
  · rw [up_ne c0, up_ne c0]
    by_cases c1 : a = 12 ∧ j = 3 * tn (σ 0 13) + 2
    · obtain ⟨rfl, rfl⟩ := c1; rw [up_eq, up_eq]
    · rw [up_ne c1, up_ne c1]
      by_cases c2 : a = 12 ∧ j = 3 * tn (σ 0 13) + 1
      · obtain ⟨rfl, rfl⟩ := c2; rw [up_eq, up_eq]
      · rw [up_ne c2, up_ne c2]
        by_cases c3 : a = 12 ∧ j = 3 * tn (σ 0 13)
        · obtain ⟨rfl, rfl⟩ := c3; rw [up_eq, up_eq]
        · rw [up_ne c3, up_ne c3]
          by_cases c4 : a = 11 ∧ j = tn (σ 0 13)
          · obtain ⟨rfl, rfl⟩ := c4; rw [up_eq, up_eq]
          · rw [up_ne c4, up_ne c4]
            exact h a j h1 h2 c4 (by omega)
theorem beyo.back {σ s t : mS} {k n g c x : Int32} (h : beyo σ s) (ht : nb t = nb (comS s k n g c)) (hx : x = σ 0 13) : beyo σ (up t 0 13 x) := by
  intro a j h1 h2 h3 h4
  by_cases c0 : a = 0 ∧ j = 13
  · obtain ⟨rfl, rfl⟩ := c0; rw [up_eq]; exact hx
  · rw [up_ne c0, nb_rd ht a j h1 h2, com_rd (by rw [h.M]; omega)]
    exact h a j h1 h2 h3 h4
theorem sow_val {σ s : mS} {k n g : Nat} (h : beyo σ s) : mbV (ab (comS s (nI (k / 10)) (nI (k % 10)) (nI g) 1)) (tn (σ 0 13)) n = mbV (sowA (ab σ) k g) (tn (σ 0 13)) n := by
  rw [mb_eq2 (show na (ab (comS s (nI (k / 10)) (nI (k % 10)) (nI g) 1)) = na (ab (comS σ (nI (k / 10)) (nI (k % 10)) (nI g) 1)) from h.com _ _ _ _), com_ab]
  rfl
theorem sow_wf {σ s : mS} {k n : Int32} {g : Nat} (h : beyo σ s) (hw : Wf (ab σ)) (hM : tn (σ 0 13) < 8) (hg : g < 8) : Wf (ab (comS s k n (nI g) 1)) := by
  refine wf_na.mp ?_
  show Wf (nb (comS s k n (nI g) 1))
  rw [h.com]
  show Wf (na (ab (comS σ k n (nI g) 1)))
  refine wf_na.mpr ?_
  rw [com_ab]
  exact wf_com hw hM hg (by decide)
theorem sow_end {σ s t : mS} {k g : Nat} {x : Int32} (h : beyo σ s) (ht : nb t = nb (comS s (nI (k / 10)) (nI (k % 10)) (nI g) 1)) : nb (up t 0 13 x) = nb (up (comS σ (nI (k / 10)) (nI (k % 10)) (nI g) 1) 0 13 x) := by
  rw [nb_u ht rfl rfl, nb_u (h.com _ _ _ _) rfl rfl]
theorem onlyR.rf {α : mS} : onlyR α α := fun _ _ _ _ => rfl
theorem onlyR.up {α β : mS} {p : Nat} {x : Int32} (h : onlyR α β) (hp : p < tn (α 0 13)) : onlyR α (Jvm.Pilot.@@N@@.up β 12 (3 * p + 2) x) := by
  intro k j h1 h2
  rw [up_ne (fun g => h1 ⟨g.1, p, hp, g.2⟩)]
  exact h k j h1 h2
/-- winters by lot -/
def rnd (z : Int32) : Int32 := z * 1103515245 + 12345
def cut4 (z : Int32) : Int32 := (z.toUInt32 >>> (Int32.toUInt32 9 &&& Int32.toUInt32 31)).toInt32 - (z.toUInt32 >>> (Int32.toUInt32 9 &&& Int32.toUInt32 31)).toInt32 / 4 * 4
def draN (α : mS) (z : Int32) : Nat → mS × Int32
  | 0 => (α, z)
  | p + 1 => (up (draN α z p).1 12 (3 * p + 2) (cl ((draN α z p).1 12 (3 * p + 2) - cut4 (rnd (draN α z p).2)) 0 9999), rnd (draN α z p).2)
def draY (α : mS) (z : Int32) : Nat → mS × Int32
  | 0 => (α, z)
  | n + 1 => (livS (draN (draY α z n).1 (draY α z n).2 (tn (α 0 13))).1, (draN (draY α z n).1 (draY α z n).2 (tn (α 0 13))).2)
def draV (α : mS) (z : Int32) (n : Nat) : Int32 := allV (draY α z n).1
theorem draN_na {α : mS} {z : Int32} : ∀ n, na (draN α z n).1 = (draN (na α) z n).1 ∧ (draN α z n).2 = (draN (na α) z n).2 := by
  intro n
  induction n with
  | zero => exact ⟨rfl, rfl⟩
  | succ n ih =>
    constructor
    · show na (up (draN α z n).1 12 (3 * n + 2) _) = up (draN (na α) z n).1 12 (3 * n + 2) (cl ((draN (na α) z n).1 12 (3 * n + 2) - cut4 (rnd (draN (na α) z n).2)) 0 9999)
      rw [na_up rfl, ← ih.1, ← ih.2]; rfl
    · show rnd (draN α z n).2 = rnd (draN (na α) z n).2
      rw [ih.2]
theorem draY_na {α : mS} {z : Int32} : ∀ n, na (draY α z n).1 = (draY (na α) z n).1 ∧ (draY α z n).2 = (draY (na α) z n).2 := by
  intro n
  induction n with
  | zero => exact ⟨rfl, rfl⟩
  | succ n ih =>
    have h := draN_na (α := (draY α z n).1) (z := (draY α z n).2) (tn (α 0 13))
    constructor
    · show na (livS (draN (draY α z n).1 (draY α z n).2 (tn (α 0 13))).1) = livS (draN (draY (na α) z n).1 (draY (na α) z n).2 (tn (α 0 13))).1
      rw [livS_na, h.1, ih.1, ih.2]
    · show (draN (draY α z n).1 (draY α z n).2 (tn (α 0 13))).2 = (draN (draY (na α) z n).1 (draY (na α) z n).2 (tn (α 0 13))).2
      rw [h.2, ih.1, ih.2]
theorem dra_eq2 {α β : mS} (h : na α = na β) (z : Int32) (n : Nat) : draV α z n = draV β z n := by
  unfold draV
  refine all_eq2 ?_
  rw [(draY_na n).1, (draY_na n).1, h]
theorem draN_r {α : mS} {z : Int32} : ∀ n, n ≤ tn (α 0 13) → onlyR α (draN α z n).1 := by
  intro n
  induction n with
  | zero => intro _; exact onlyR.rf
  | succ n ih => intro hn; exact (ih (by omega)).up (by omega)
theorem draY_r {α : mS} {z : Int32} : ∀ n, onlyR α (draY α z n).1 := by
  intro n
  induction n with
  | zero => exact onlyR.rf
  | succ n ih =>
    have e : tn ((draY α z n).1 0 13) = tn (α 0 13) := by rw [ih.M]
    exact (ih.trans (draN_r _ (by omega))).trans (livS_r _)
theorem draN_wf {α : mS} {z : Int32} (h : Wf α) : ∀ n, Wf (draN α z n).1 := by
  intro n
  induction n with
  | zero => exact h
  | succ n ih => exact wf_cnt ih (cl_in _)
theorem draY_wf {α : mS} {z : Int32} (h : Wf α) : ∀ n, Wf (draY α z n).1 := by
  intro n
  induction n with
  | zero => exact h
  | succ n ih => exact wf_livS (draN_wf ih _)
theorem oth_s {α : mS} {s p j : Nat} {x : Int32} (hx : x = othN α s p j) (h : x = -1) (c : yrs α (j + 1) 12 (3 * p + 2) = α 41 (40 * s + j)) : -1 = othN α s p (j + 1) := by
  show _ = (if othN α s p j = -1 then (if _ then _ else _) else _)
  rw [← hx, if_pos h, if_pos c]
theorem oth_f {α : mS} {s p j : Nat} {x : Int32} (hx : x = othN α s p j) (h : x = -1) (c : ¬ yrs α (j + 1) 12 (3 * p + 2) = α 41 (40 * s + j)) : nI j = othN α s p (j + 1) := by
  show _ = (if othN α s p j = -1 then (if _ then _ else _) else _)
  rw [← hx, if_pos h, if_neg c]
theorem oth_m {α : mS} {s p j : Nat} (h : ¬ othN α s p j = -1) : ∀ d, othN α s p (j + d) = othN α s p j := by
  intro d
  induction d with
  | zero => rfl
  | succ d ih =>
    have e : othN α s p (j + (d + 1)) = (if othN α s p (j + d) = -1 then (if yrs α (j + d + 1) 12 (3 * p + 2) = α 41 (40 * s + (j + d)) then -1 else nI (j + d)) else othN α s p (j + d)) := rfl
    rw [e, ih, if_neg h]
theorem oth_e {α : mS} {s p j z : Nat} {x : Int32} (hx : x = othN α s p j) (hj : j ≤ z) (h : z ≤ j ∨ ¬ x = -1) : x = othN α s p z := by
  rcases h with h | h
  · rw [show z = j by omega]; exact hx
  · have := oth_m (hx ▸ h) (z - j)
    rw [show j + (z - j) = z by omega] at this
    rw [this]; exact hx
theorem oth_end {σ : mS} {q p j z : Nat} {x : Int32} (hx : x = othN (asd (ab σ)) q p j) (hj : j ≤ z) (h : z ≤ j ∨ ¬ x = -1) (hz : tn (σ 40 q) = z) : x = othV (ab σ) q p := by
  have e := oth_e hx hj h
  rw [e, oth_eq2 nas]
  show _ = othN (ab σ) q p (tn (σ 40 q))
  rw [hz]
