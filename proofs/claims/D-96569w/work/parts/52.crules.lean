/-! THE COMPONENT's WORLD: rules -/
set_option maxRecDepth 100000
theorem cIm_st : cSt cIm := ⟨fun _ _ _ _ _ h => h, fun _ _ _ _ _ _ h hp => cIm_up h hp⟩
theorem up_upd {n : mS} {a i : Nat} {x : Int32} : up n a i x a = upd (n a) i x := by
  funext j
  unfold up upd
  rw [if_pos rfl]
/-- rows that always count -/
def rowO (a : Nat) : Prop := a ≠ 5 ∧ a ≠ 11 ∧ a ≠ 12 ∧ a ≠ 32 ∧ a ≠ 41 ∧ a ≠ 56
theorem cAg.row {n n' : mS} {a : Nat} (h : cAg n n') (ha : rowO a) : n' a = n a := by
  funext j
  obtain ⟨h1, h2, h3, h4, h5, h6⟩ := ha
  exact h.1 a j ⟨fun e => absurd e h2, fun e => absurd e h3, fun e => absurd e h1, fun e => absurd e h4, fun e => absurd e h5, fun e => absurd e h6⟩
theorem rdO_u0 {c j : Nat} (h : c ≠ 0) (hj : j ≠ 3) (hj2 : j ≠ 61) : ¬ rdO c 0 j := by
  unfold rdO
  intro h0
  by_cases a : c < 50
  · rw [if_pos a, if_neg h] at h0
    by_cases b : c = 8
    · rw [if_pos b] at h0; exact h0.2.elim hj hj2
    · rw [if_neg b] at h0
      unfold rdR at h0
      repeat' split at h0
      all_goals omega
  · rw [if_neg a] at h0
    repeat' split at h0
    all_goals omega
/-- the one cell that reads it -/
def rdI (k j : Nat) : Nat := if k = 10 then 5 else if k = 5 then 12 else if k = 50 then 21 else if k = 51 then 23 else if k = 52 then 24 else if k = 53 then 25 else if k = 31 then 27 else if k = 63 then 29 else if 70 ≤ k ∧ k < 101 then k + 30 else if k = 32 then 140 + j % 3 else if k = 12 then 200 + j / 3 else if k = 11 then 200 + j else if k = 39 ∨ k = 40 then 230 + j else if k = 41 then 230 + j / 40 else if k = 67 then 200 + j else if k = 68 then 200 + j / 3 else if k = 66 then 226 else if k = 64 then 240 else 0
theorem rdO_inv {c k j : Nat} (h : rdO c k j) (h0 : k ≠ 0) (h1 : k ≠ 56) (h2 : k ≠ 38) (h3 : k < 1000) : c = rdI k j := by
  unfold rdO at h
  by_cases a : c < 50
  · rw [if_pos a] at h
    by_cases c0 : c = 0
    · rw [if_pos c0] at h; exact absurd h h0
    rw [if_neg c0] at h
    by_cases c8 : c = 8
    · rw [if_pos c8] at h; exact absurd h.1 h0
    rw [if_neg c8] at h
    unfold rdR at h
    by_cases d1 : c = 1
    · rw [if_pos d1] at h; subst h; subst d1; exact absurd rfl h1
    rw [if_neg d1] at h
    by_cases d5 : c = 5
    · rw [if_pos d5] at h; subst h; subst d5; rfl
    rw [if_neg d5] at h
    by_cases d12 : c = 12
    · rw [if_pos d12] at h; subst h; subst d12; rfl
    rw [if_neg d12] at h
    by_cases d21 : c = 21
    · rw [if_pos d21] at h; subst h; subst d21; rfl
    rw [if_neg d21] at h
    by_cases d23 : c = 23
    · rw [if_pos d23] at h; subst h; subst d23; rfl
    rw [if_neg d23] at h
    by_cases d24 : c = 24
    · rw [if_pos d24] at h; subst h; subst d24; rfl
    rw [if_neg d24] at h
    by_cases d25 : c = 25
    · rw [if_pos d25] at h; subst h; subst d25; rfl
    rw [if_neg d25] at h
    by_cases d27 : c = 27
    · rw [if_pos d27] at h; subst h; subst d27; rfl
    rw [if_neg d27] at h
    by_cases d29 : c = 29
    · rw [if_pos d29] at h; subst h; subst d29; rfl
    rw [if_neg d29] at h
    omega
  rw [if_neg a] at h
  by_cases b : c < 131
  · rw [if_pos b] at h
    obtain ⟨g1, rfl⟩ := h
    unfold rdI
    rw [if_neg (by omega), if_neg (by omega), if_neg (by omega), if_neg (by omega), if_neg (by omega), if_neg (by omega), if_neg (by omega), if_neg (by omega), if_pos (by omega)]
    omega
  rw [if_neg b] at h
  by_cases b2 : c < 143
  · rw [if_pos b2] at h
    obtain ⟨g1, rfl, g2⟩ := h
    show c = 140 + j % 3
    omega
  rw [if_neg b2] at h
  by_cases b3 : c < 154
  · rw [if_pos b3] at h
    exact absurd h.2.1 h2
  rw [if_neg b3] at h
  by_cases b4 : c < 208
  · rw [if_pos b4] at h
    rcases h with ⟨g1, ⟨rfl, g2⟩ | ⟨rfl, g2⟩ | ⟨rfl, g2⟩⟩
    · exact absurd rfl h1
    · show c = 200 + j
      omega
    · show c = 200 + j / 3
      omega
  rw [if_neg b4] at h
  by_cases b4 : c < 210
  · rw [if_pos b4] at h
    rcases h with ⟨rfl, g2⟩ | ⟨rfl, g2⟩ | ⟨rfl, g2⟩
    · exact absurd rfl h1
    · show c = 200 + j
      omega
    · show c = 200 + j / 3
      omega
  rw [if_neg b4] at h
  by_cases b5 : c < 226
  · rw [if_pos b5] at h
    exact absurd h.2.1 h0
  rw [if_neg b5] at h
  by_cases b6 : c = 226
  · rw [if_pos b6] at h; subst h; exact b6
  rw [if_neg b6] at h
  by_cases b7 : c = 240
  · rw [if_pos b7] at h; subst h; exact b7
  rw [if_neg b7] at h
  rcases h with ⟨g1, g0, ⟨rfl, g2⟩ | ⟨rfl, g2⟩ | ⟨rfl, g2⟩ | ⟨rfl, g2⟩⟩
  · exact absurd rfl h2
  · show c = 230 + j
    omega
  · show c = 230 + j
    omega
  · show c = 230 + j / 40
    omega
theorem rdO_o {c k j : Nat} (hc : rdI k j = c) (h0 : k ≠ 0) (h1 : k ≠ 56) (h2 : k ≠ 38) (h3 : k < 1000) : ∀ c2, c2 ≠ c → ¬ rdO c2 k j := fun _ hn h => hn ((rdO_inv h h0 h1 h2 h3).trans hc)
section CR
variable {v : vv_T cS} {l : Launch} {cc : ByteArray} {nL : Nat} {own nm : String} {ret : Option FieldType} {hh : List (Nat × Nat × Nat × Nat)} {R : Room} {Kf : State → Prop} {D : va_G} {K : Nat → ClassId} {fv : List Value × (Nat → Nat)} {A : Nat → Prop} {Pn : cS → Prop} {post : vv_O cS}
variable {n n' : mS} {δ : Nat → Nat} {ν : Nat → Option (Mg × Nat)} {bc bs pc q : Nat} {ls : List (Nat × Value)} {st : List Value} {L : List Nat} {f : Nat → va_E} {H H1 : Heap}
theorem cW_wr {k j c : Nat} {x : Int32} {e e' : va_E} (hG : cSt Pn) (hfr : frc k j) (hag : cAg n n') (hrp : cRp K fv n' δ ν L f) (htx : cTx n δ ν) (hpn : Pn (n, δ, ν)) (he : cE K fv n' δ c = some e) (he' : cE K fv (up n' k j x) δ c = some e') (hc : ∀ c2, c2 ≠ c → ¬ rdO c2 k j) (hn : noNd e) (hl : lWd D A (va_pl L (va_up f (δ c) e')) H1) : cWdP Pn D K fv A (up n k j x, δ, ν) H1 :=
  ⟨up n' k j x, L, va_up f (δ c) e', cAg_up hfr hag, hrp.set he he' (fun j hj => cE_up (hc j hj)) hn, cTx_up hfr htx, hG.2 _ _ _ _ _ _ hfr hpn, hl⟩
/-- a number of the component itself is written -/
theorem c_put (F : vv_F v l cc nL RX0 nm ret hh R Kf (cWdP Pn D K fv A) A post) (G : cG A fv Pn Kf D K) (k j : Nat) {x : Int32} {idx : Nat} (hk : k < 31) (hj : frc 0 j) (hs : ∀ m : mS, (cF m δ).set k (.int x) = cF (up m 0 j x) δ) (hl : Cond.fieldLink RX0 idx (TX0 k).1 (TX0 k).2.1 (TX0 k).2.2.1 ∈ lw_all) (hfin : (TX0 k).2.2.2 = false) (hd : parseFieldDescriptor (TX0 k).2.2.1 = some .int)
    (d : decode cc pc = .ok (.putfield idx, 3)) (hq : pc + 3 = q) (kk : v (up n 0 j x, δ, ν) bc bs q ls st) : v (n, δ, ν) bc bs pc ls (.int x :: .ref (δ 0) :: st) := by
  obtain ⟨p, e, s, m, args, below, meth, c, ⟨hx, hb, hml, hown, hts⟩, -, ⟨hKf, hA⟩, rfl⟩ := F
  subst hq
  intro H locs cells slots arr hW hS h1 h2 hl2
  obtain ⟨n', L, f, hag, hrp, htx, hpn, hP, hD⟩ := hW
  obtain ⟨g1, g2⟩ := hrp.1 0 (.inr (0, cF n' δ)) rfl
  obtain ⟨q0, hq0⟩ := va_pl_get (X := []) (f := f) g1
  have hq1 := hq0
  rw [g2] at hq0
  refine va_put (D := D) (ci := 0) (C := RX0) (T := TX0) (N := 31) hx hb hts in_X0 tyX0 tyX0_ok nmX0 hown (G.2.1 s hKf) hP hD hS q0 hq0 rfl k hk (hts _ hl) (fun _ h9 => h9) hfin hd rfl rfl hk d (fun H1 locs1 hP1 hD1 hS1 => ?_)
  have es := va_pl_set (X := []) (e := .inr (0, (cF n' δ).set k (.int x))) hD g1 hq1
  rw [List.nil_append, List.nil_append] at es
  rw [es, hs] at hP1 hD1
  refine kk H1 locs1 cells slots arr (cW_wr G.2.2.1 hj hag hrp htx hpn (c := 0) rfl rfl ?_ ?_ ⟨hP1, hD1⟩) hS1 h1 h2 hl2
  · exact fun c2 hc2 => rdO_u0 hc2 (fun e => hj.1 ⟨rfl, Or.inl e⟩) (fun e => hj.1 ⟨rfl, by omega⟩)
  · intro c fs h; cases h; exact Or.inl (by decide)
/-- a row of ints is read -/
theorem c_ald (F : vv_F v l cc nL own nm ret hh R Kf (cWdP Pn D K fv A) A post) (G : cG A fv Pn Kf D K) (k a N : Nat) {t : Nat} (hE : ∀ m : mS, cE K fv m δ k = some (.inl (K 0, N, .inl (m a)))) (ha : rowO a) (ht : t < N) (hN : N ≤ 160) (d : decode cc pc = .ok (.iaload, 1)) (hq : pc + 1 = q) (kk : v (n, δ, ν) bc bs q ls (.int (n a t) :: st)) : v (n, δ, ν) bc bs pc ls (.int (nI t) :: .ref (δ k) :: st) := by
  obtain ⟨p, e, s, m, args, below, meth, c, ⟨hx, hb, hml, hown, hts⟩, -, ⟨hKf, hA⟩, rfl⟩ := F
  subst hq
  intro H locs cells slots arr hW hS h1 h2 hl2
  obtain ⟨n', L, f, hag, hrp, htx, hpn, hP, hD⟩ := id hW
  obtain ⟨g1, g2⟩ := hrp.1 k _ (hE n')
  obtain ⟨q0, hq0⟩ := va_pl_get (X := []) (f := f) g1
  rw [g2, hag.row ha] at hq0
  refine va_iald (D := D) hx hb (G.2.1 s hKf) hP q0 0 hq0 rfl (vp_in_nI ht (by omega)) d ?_
  rw [nI_clamp (by omega)]
  exact kk H locs cells slots arr hW hS h1 h2 hl2
/-- a row of ints is written -/
theorem c_ast (F : vv_F v l cc nL own nm ret hh R Kf (cWdP Pn D K fv A) A post) (G : cG A fv Pn Kf D K) (k a N : Nat) {t : Nat} {x : Int32} (hE : ∀ m : mS, cE K fv m δ k = some (.inl (K 0, N, .inl (m a)))) (hi : rdI a t = k) (ha : rowO a) (hf : frc a t) (h0 : a ≠ 0) (h38 : a ≠ 38) (h1000 : a < 1000) (ht : t < N) (hN : N ≤ 160) (d : decode cc pc = .ok (.iastore, 1)) (hq : pc + 1 = q) (kk : v (up n a t x, δ, ν) bc bs q ls st) : v (n, δ, ν) bc bs pc ls (.int x :: .int (nI t) :: .ref (δ k) :: st) := by
  obtain ⟨p, e, s, m, args, below, meth, c, ⟨hx, hb, hml, hown, hts⟩, -, ⟨hKf, hA⟩, rfl⟩ := F
  subst hq
  intro H locs cells slots arr hW hS h1 h2 hl2
  obtain ⟨n', L, f, hag, hrp, htx, hpn, hP, hD⟩ := hW
  obtain ⟨g1, g2⟩ := hrp.1 k _ (hE n')
  obtain ⟨q0, hq0⟩ := va_pl_get (X := []) (f := f) g1
  have hq1 := hq0
  rw [g2] at hq0
  refine va_iast (D := D) hx hb (G.2.1 s hKf) hP hD hS q0 0 hq0 rfl (vp_in_nI ht (by omega)) d (fun H1 locs1 hP1 hD1 hS1 => ?_)
  rw [nI_clamp (by omega)] at hP1 hD1
  have es := va_pl_set (X := []) (e := .inl (K 0, N, .inl (upd (n' a) t x))) hD g1 hq1
  rw [List.nil_append, List.nil_append] at es
  rw [es] at hP1 hD1
  refine kk H1 locs1 cells slots arr (cW_wr G.2.2.1 hf hag hrp htx hpn (c := k) (hE n') (by rw [hE, up_upd]) (rdO_o hi h0 ha.2.2.2.2.2 h38 h1000) ?_ ⟨hP1, hD1⟩) hS1 h1 h2 hl2
  intro c fs h; cases h
end CR
