/-! THE COMPONENT's WORLD: a bulb at hand is planted; a place is emptied; the number of plantings -/
set_option maxRecDepth 100000
theorem cRp.mv {K : Nat → ClassId} {fv : List Value × (Nat → Nat)} {n n2 : mS} {δ δ2 : Nat → Nat} {ν : Nat → Option (Mg × Nat)} {L : List Nat} {f : Nat → va_E} (h : cRp K fv n δ ν L f) (φ : Nat → Nat) (c1 : Nat) {e0 e1 : va_E} (hc1 : cE K fv n δ c1 = some e0) (hn : noNd e0) (h1 : cE K fv n2 δ2 c1 = some e1) (hδ1 : δ2 c1 = δ c1) (h0 : δ2 0 = δ 0)
    (hm : ∀ k e, k ≠ c1 → cE K fv n2 δ2 k = some e → φ k ≠ c1 ∧ δ2 k = δ (φ k) ∧ cE K fv n δ (φ k) = some e) (hinj : ∀ i j, i ≠ c1 → j ≠ c1 → (cE K fv n2 δ2 i).isSome = true → (cE K fv n2 δ2 j).isSome = true → φ i = φ j → i = j) : cRp K fv n2 δ2 ν L (va_up f (δ c1) e1) := by
  obtain ⟨g1, g2, g3⟩ := h
  refine ⟨fun k e hk => ?_, fun i j hi hj hij => ?_, by rw [h0]; exact ndV_up (by rw [(g1 c1 e0 hc1).2]; exact hn) g3⟩
  · by_cases c : k = c1
    · subst c
      rw [h1] at hk; cases hk
      rw [hδ1]
      exact ⟨(g1 k e0 hc1).1, va_up_self _ _ _⟩
    · obtain ⟨a1, a2, a3⟩ := hm k e c hk
      have hne : δ (φ k) ≠ δ c1 := fun q => a1 (g2 _ _ (by rw [a3]; rfl) (by rw [hc1]; rfl) q)
      rw [a2, va_up_ne _ _ hne]
      exact g1 _ _ a3
  · by_cases ci : i = c1
    · by_cases cj : j = c1
      · rw [ci, cj]
      · obtain ⟨e, he⟩ := Option.isSome_iff_exists.mp hj
        obtain ⟨a1, a2, a3⟩ := hm j e cj he
        rw [ci, hδ1, a2] at hij
        exact absurd (g2 _ _ (by rw [hc1]; rfl) (by rw [a3]; rfl) hij).symm a1
    · obtain ⟨e, he⟩ := Option.isSome_iff_exists.mp hi
      obtain ⟨a1, a2, a3⟩ := hm i e ci he
      by_cases cj : j = c1
      · rw [cj, hδ1, a2] at hij
        exact absurd (g2 _ _ (by rw [a3]; rfl) (by rw [hc1]; rfl) hij) a1
      · obtain ⟨e', he'⟩ := Option.isSome_iff_exists.mp hj
        obtain ⟨b1, b2, b3⟩ := hm j e' cj he'
        rw [a2, b2] at hij
        exact hinj i j ci cj hi hj (g2 _ _ (by rw [a3]; rfl) (by rw [b3]; rfl) hij)
theorem cIm_eq {n n2 : mS} {δ δ2 : Nat → Nat} {ν ν2 : Nat → Option (Mg × Nat)} (h0 : ∀ j, 33 ≤ j → j ≤ 37 ∨ j = 57 → n2 0 j = n 0 j) (h63 : ∀ j, n2 63 j = n 63 j) (h : cIm (n, δ, ν)) : cIm (n2, δ2, ν2) := by
  rcases h with ⟨h1, h2⟩ | ⟨h1, h2, h3⟩
  · exact Or.inl ⟨(h0 57 (by omega) (by omega)).trans h1, (h0 33 (by omega) (by omega)).trans h2⟩
  · refine Or.inr ⟨(h0 57 (by omega) (by omega)).trans h1, ?_, fun j hj => ?_⟩
    · show okN (n2 0 33) 8
      rw [h0 33 (by omega) (by omega)]; exact h2
    · show n2 63 j = n2 0 (33 + j)
      rw [h63, h0 (33 + j) (by omega) (by omega)]; exact h3 j hj
theorem cTx_eq {n n2 : mS} {δ δ2 : Nat → Nat} {ν : Nat → Option (Mg × Nat)} (h3 : tn (n2 0 3) + tn (n2 0 61) = tn (n 0 3) + tn (n 0 61)) (h1 : n2 1 = n 1) (h2 : n2 2 = n 2) (hd : ∀ x, 250 ≤ x → δ2 x = δ x) (h : cTx n δ ν) : cTx n2 δ2 ν := by
  intro t ht
  rw [h3] at ht
  obtain ⟨x, g1, g2⟩ := h t ht
  exact ⟨x, by rw [h1, h2]; exact g1, fun w hw => by rw [hd _ (by omega)]; exact g2 w hw⟩
theorem cE_gh {K : Nat → ClassId} {fv : List Value × (Nat → Nat)} {n : mS} {δ : Nat → Nat} {c j : Nat} {x : Int32} (hj : 58 ≤ j ∧ j ≤ 60) : cE K fv (up n 0 j x) δ c = cE K fv n δ c := by
  by_cases h : c = 0
  · subst h
    show some (Sum.inr (0, cF (up n 0 j x) δ)) = some (Sum.inr (0, cF n δ))
    have e : cF (up n 0 j x) δ = cF n δ := by
      have g : ∀ i, i ≤ 57 → up n 0 j x 0 i = n 0 i := fun i hi => up_ne (by omega)
      unfold cF
      rw [g 13 (by decide), g 7 (by decide), g 8 (by decide), g 9 (by decide), g 50 (by decide), g 3 (by decide), g 6 (by decide), g 51 (by decide), g 52 (by decide), g 53 (by decide), g 54 (by decide), g 55 (by decide), g 56 (by decide), g 4 (by decide), g 57 (by decide)]
    rw [e]
  · exact cE_up (rdO_u0 h (by omega) (by omega))
/-- the bulb at hand h is planted at m -/
def stN (n : mS) (h m : Nat) : mS := up (up (up (up (up (up n 56 m 1) 11 m (n 67 h)) 12 (3 * m) (n 68 (3 * h))) 12 (3 * m + 1) (n 68 (3 * h + 1))) 12 (3 * m + 2) (n 68 (3 * h + 2))) 56 h 0
theorem stN_ne {n : mS} {h m a b : Nat} (h1 : ¬ (a = 56 ∧ (b = m ∨ b = h))) (h2 : ¬ (a = 11 ∧ b = m)) (h3 : ¬ (a = 12 ∧ b / 3 = m)) : stN n h m a b = n a b := by
  unfold stN
  rw [up_ne (by omega), up_ne (by omega), up_ne (by omega), up_ne (by omega), up_ne (by omega), up_ne (by omega)]
theorem stN_56 {n : mS} {h m : Nat} (hm : m ≠ h) : stN n h m 56 m = 1 := by unfold stN; rw [up_ne (by omega), up_ne (by omega), up_ne (by omega), up_ne (by omega), up_ne (by omega), up_eq]
theorem stN_56h {n : mS} {h m : Nat} : stN n h m 56 h = 0 := by unfold stN; rw [up_eq]
theorem stN_11 {n : mS} {h m : Nat} : stN n h m 11 m = n 67 h := by unfold stN; rw [up_ne (by omega), up_ne (by omega), up_ne (by omega), up_ne (by omega), up_eq]
theorem stN_12 {n : mS} {h m i : Nat} (hi : i < 3) : stN n h m 12 (3 * m + i) = n 68 (3 * h + i) := by
  unfold stN
  rw [up_ne (by omega)]
  rcases (show i = 0 ∨ i = 1 ∨ i = 2 by omega) with rfl | rfl | rfl
  · rw [up_ne (by omega), up_ne (by omega)]; exact up_eq
  · rw [up_ne (by omega), up_eq]
  · rw [up_eq]
section ST
variable {K : Nat → ClassId} {fv : List Value × (Nat → Nat)} {n n' : mS} {δ δ2 : Nat → Nat} {ν : Nat → Option (Mg × Nat)} {L : List Nat} {f : Nat → va_E} {h m : Nat}
/-- which cells read what a planting changes -/
theorem rdO_st {c k j : Nat} (hr : rdO c k j) (hc1 : c ≠ 1) (hcm : c ≠ 200 + m) (hch : c ≠ 200 + h) : ¬ (k = 56 ∧ (j = m ∨ j = h)) ∧ ¬ (k = 11 ∧ j = m) ∧ ¬ (k = 12 ∧ j / 3 = m) := by
  refine ⟨?_, ?_, ?_⟩
  · rintro ⟨rfl, h1⟩
    unfold rdO at hr
    by_cases a : c < 50
    · rw [if_pos a] at hr
      by_cases c0 : c = 0
      · rw [if_pos c0] at hr; omega
      rw [if_neg c0] at hr
      by_cases c8 : c = 8
      · rw [if_pos c8] at hr; omega
      rw [if_neg c8] at hr
      unfold rdR at hr
      rw [if_neg hc1] at hr
      repeat' split at hr
      all_goals omega
    · rw [if_neg a] at hr
      repeat' split at hr
      all_goals omega
  · rintro ⟨rfl, rfl⟩
    exact hcm (rdO_inv hr (by decide) (by decide) (by decide) (by decide))
  · rintro ⟨rfl, h1⟩
    have := rdO_inv hr (by decide) (by decide) (by decide) (by decide)
    have e : rdI 12 j = 200 + j / 3 := rfl
    omega
theorem cE_st {c : Nat} (hd : oth (200 + m) δ δ2) (hm : m < 8) (hc1 : c ≠ 1) (hcm : c ≠ 200 + m) (hch : c ≠ 200 + h) : cE K fv (stN n h m) δ2 c = cE K fv n δ c := by
  rw [cE_dl (δ := δ) (fun w hw => hd w (by unfold dlO at hw; omega))]
  refine cE_congr (fun a b hab => ?_)
  obtain ⟨h1, h2, h3⟩ := rdO_st (m := m) (h := h) hab hc1 hcm hch
  exact stN_ne h1 h2 h3
theorem cE_none {c : Nat} (hh : 200 ≤ c ∧ c < 210) (h0 : n 56 (c - 200) = 0) : cE K fv n δ c = none := by
  unfold cE cE1
  by_cases h8 : c < 208
  · rw [if_neg (by omega), if_neg (by omega), if_neg (by omega), if_neg (by omega), if_pos (by omega), if_pos h0]
  · rw [if_neg (by omega), if_neg (by omega), if_neg (by omega), if_neg (by omega), if_neg (by omega), if_pos (by omega), if_pos h0]
/-- the raw cells behind a planting -/
theorem cRp.store (hrp : cRp K fv n' δ ν L f) (hm : m < 8) (hh : 8 ≤ h ∧ h < 10) (h1 : n' 56 h = 1) (hd : oth (200 + m) δ δ2) (hdm : δ2 (200 + m) = δ (200 + h)) :
    cRp K fv (stN n' h m) δ2 ν L (va_up f (δ 1) (.inl (K 4, 8, rfs (va_up (fun p => if p < 8 ∧ n' 56 p ≠ 0 then some (δ (200 + p)) else none) m (some (δ (200 + h))))))) := by
  have e1 : (fun p => if p < 8 ∧ stN n' h m 56 p ≠ 0 then some (δ2 (200 + p)) else none) = va_up (fun p => if p < 8 ∧ n' 56 p ≠ 0 then some (δ (200 + p)) else none) m (some (δ (200 + h))) := by
    funext p
    by_cases c : p = m
    · subst c
      rw [va_up_self, stN_56 (by omega), if_pos ⟨hm, by decide⟩, hdm]
    · rw [va_up_ne _ _ c]
      by_cases hp : p < 8
      · rw [stN_ne (by omega) (by omega) (by omega), hd (200 + p) (by omega)]
      · rw [if_neg (fun e => hp e.1), if_neg (fun e => hp e.1)]
  refine hrp.mv (fun k => if k = 200 + m then 200 + h else k) 1 (e0 := .inl (K 4, 8, rfs (fun p => if p < 8 ∧ n' 56 p ≠ 0 then some (δ (200 + p)) else none))) rfl ?_ ?_ (hd 1 (by omega)) (hd 0 (by omega)) ?_ ?_
  · intro c fs e; cases e
  · show some (Sum.inl (K 4, 8, rfs (fun p => if p < 8 ∧ stN n' h m 56 p ≠ 0 then some (δ2 (200 + p)) else none))) = _
    rw [e1]
  · intro k e hk1 hk
    by_cases c : k = 200 + m
    · subst c
      rw [if_pos rfl]
      refine ⟨by omega, hdm, ?_⟩
      rw [cE_b (by omega) (stN_56 (by omega))] at hk
      rw [cE_h hh h1, ← hk, stN_11]
      unfold bF hF
      rw [show stN n' h m 12 (3 * m) = n' 68 (3 * h) from stN_12 (i := 0) (by decide), stN_12 (i := 1) (by decide), stN_12 (i := 2) (by decide)]
    · rw [if_neg c]
      have hch : k ≠ 200 + h := by
        rintro rfl
        rw [cE_none (by omega) (by rw [Nat.add_sub_cancel_left]; exact stN_56h)] at hk
        cases hk
      rw [cE_st hd hm hk1 c hch] at hk
      exact ⟨hk1, hd k c, hk⟩
  · intro i j hi1 hj1 hi hj hij
    have hn : ∀ k, (cE K fv (stN n' h m) δ2 k).isSome = true → k ≠ 200 + h := by
      rintro k hk rfl
      rw [cE_none (by omega) (by rw [Nat.add_sub_cancel_left]; exact stN_56h)] at hk
      cases hk
    have hi2 := hn i hi
    have hj2 := hn j hj
    by_cases ci : i = 200 + m
    · by_cases cj : j = 200 + m
      · rw [ci, cj]
      · rw [if_pos ci, if_neg cj] at hij; exact absurd hij.symm hj2
    · by_cases cj : j = 200 + m
      · rw [if_neg ci, if_pos cj] at hij; exact absurd hij hi2
      · rw [if_neg ci, if_neg cj] at hij; exact hij
theorem cRp.gh {j : Nat} {x : Int32} (hj : 58 ≤ j ∧ j ≤ 60) (hrp : cRp K fv n' δ ν L f) : cRp K fv (up n' 0 j x) δ ν L f :=
  ⟨fun k e hk => hrp.1 k e (by rw [← cE_gh (j := j) (x := x) hj]; exact hk), fun a b ha hb => hrp.2.1 a b (by rw [← cE_gh (j := j) (x := x) hj]; exact ha) (by rw [← cE_gh (j := j) (x := x) hj]; exact hb), hrp.2.2⟩
theorem crel_bits {n n2 : mS} {k j : Nat} (h0 : n2 0 13 = n 0 13) (h60 : n2 0 60 = n 0 60) (h6 : n2 0 6 = n 0 6) (h58 : n2 0 58 = n 0 58) (h57 : n2 0 57 = n 0 57) (h33 : n2 0 33 = n 0 33) (h59 : n2 0 59 = n 0 59) (h40 : n2 40 (j / 40) = n 40 (j / 40)) : crel n2 k j ↔ crel n k j := by
  unfold crel
  rw [h0, h60, h6, h58, h57, h33, h59, h40]
/-- planting at the first free place -/
theorem cAg_store (hag : cAg n n') (hm : m = tn (n 0 13)) (h8 : m < 8) (hh : 8 ≤ h ∧ h < 10) : cAg (up (stN n h m) 0 60 1) (up (stN n' h m) 0 60 1) := by
  have e0 : ∀ j, j ≠ 60 → up (stN n h m) 0 60 1 0 j = n 0 j := fun j hj => by rw [up_ne (by omega), stN_ne (by omega) (by omega) (by omega)]
  have e60 : tn (up (stN n h m) 0 60 1 0 60) = 1 := by rw [up_eq]; decide
  have e40 : ∀ j, up (stN n h m) 0 60 1 40 j = n 40 j := fun j => by rw [up_ne (by omega), stN_ne (by omega) (by omega) (by omega)]
  refine ⟨fun k j hc => ?_, fun p hp8 hp => ?_⟩
  · unfold crel at hc
    rw [e0 13 (by decide), e60, e0 6 (by decide), e0 58 (by decide), e0 57 (by decide), e0 33 (by decide), e0 59 (by decide), e40] at hc
    obtain ⟨c1, c2, c3, c4, c5, c6⟩ := hc
    by_cases k0 : k = 0 ∧ j = 60
    · obtain ⟨rfl, rfl⟩ := k0; rw [up_eq, up_eq]
    rw [up_ne k0, up_ne k0]
    have hand : ∀ a b, (a = 67 ∨ a = 68) → n' a b = n a b := fun a b hab => hag.o (by omega)
    by_cases k1 : k = 56 ∧ (j = m ∨ j = h)
    · obtain ⟨rfl, hj⟩ := k1
      have := c6 rfl
      have e : j = h := by omega
      subst e
      rw [stN_56h, stN_56h]
    by_cases k2 : k = 11 ∧ j = m
    · obtain ⟨rfl, rfl⟩ := k2
      rw [stN_11, stN_11]; exact hand 67 h (Or.inl rfl)
    by_cases k3 : k = 12 ∧ j / 3 = m
    · obtain ⟨rfl, hj⟩ := k3
      have hj2 : j = 3 * m + j % 3 := by omega
      rw [hj2, stN_12 (by omega), stN_12 (by omega)]; exact hand 68 _ (Or.inr rfl)
    rw [stN_ne k1 k2 k3, stN_ne k1 k2 k3]
    exact hag.1 k j ⟨fun e => by have := c1 e; omega, fun e => by have := c2 e; omega, c3, c4, c5, c6⟩
  · rw [e0 13 (by decide), e60] at hp
    rw [up_ne (by omega)]
    by_cases c : p = m
    · subst c; exact stN_56 (by omega)
    · rw [stN_ne (by omega) (by omega) (by omega)]
      exact hag.2 p hp8 (by omega)
end ST
section CS
variable {v : vv_T cS} {l : Launch} {cc : ByteArray} {nL : Nat} {own nm : String} {ret : Option FieldType} {hh : List (Nat × Nat × Nat × Nat)} {R : Room} {Kf : State → Prop} {D : va_G} {K : Nat → ClassId} {fv : List Value × (Nat → Nat)} {A : Nat → Prop} {post : vv_O cS}
variable {n n' : mS} {δ : Nat → Nat} {ν : Nat → Option (Mg × Nat)} {bc bs pc q : Nat} {ls : List (Nat × Value)} {st : List Value}
theorem cst_b {k : Nat} (hk : 1 ≤ k ∧ k ≤ 5) : Cond.castable (bN k) RX9 ∈ lw_tbl := by
  rcases (show k = 1 ∨ k = 2 ∨ k = 3 ∨ k = 4 ∨ k = 5 by omega) with rfl | rfl | rfl | rfl | rfl
  · exact q1827
  · exact q1828
  · exact q1829
  · exact q1830
  · exact q1831
theorem va_astB {p : Program} {e : Env} {s : State} {m : MethodId} {args : Array Value} {below : List Frame} {meth : Method} {c : Code} {H H0 : Heap} {locs : List Loc} {cells slots : Nat} {Q : State → Prop} {a : Nat} {tys : List (ClassId × FieldType)} {ws : va_W} {arr : Array Slot} (hx : p.tables.exec = Jvm.exec) (hb : c.code = cc) (hN : kN Kf) (hKf : Kf s) (hK : va_K D vwCl tys s) (hP : va_P D vwCl ws H) (hD : va_D A ws) (hS : va_S A H0 H locs) (q0 t0 qk k : Nat) {cA : ClassId} {N b i : Nat} {vs : List Value} {f : Nat → Option Nat} (hk : k ≤ 5) (ha : ws[q0]? = some (a, .inl (cA, N, rfs f))) (ht : tys[t0]? = some (cA, .object RX9)) (hv : ws[qk]? = some (b, .inr (7 + k, vs))) (hi : i < N) (hNN : N ≤ 160) (hdg : decode cc pc = .ok (.aastore, 1))
    (kk : ∀ (H1 : Heap) (locs1 : List Loc), va_P D vwCl (ws.set q0 (a, .inl (cA, N, rfs (va_up f i (some b))))) H1 → va_D A (ws.set q0 (a, .inl (cA, N, rfs (va_up f i (some b))))) → va_S A H0 H1 locs1 → W p l e R s m args below meth c H1 locs1 cells slots Q (F0 m (pc + 1) arr st)) : W p l e R s m args below meth c H locs cells slots Q (F0 m pc arr (.ref b :: .int (nI i) :: .ref a :: st)) := by
  have hc : (nI i).toNatClampNeg = i := nI_clamp (by omega)
  by_cases h0 : k = 0
  · subst h0
    refine va_astq (r := (RX9, TX9, 3)) hx hb hK hP hD hS q0 t0 qk 7 ha ht hv rfl (vp_in_nI hi (by omega)) hdg ?_
    rw [hc]; exact kk
  · refine va_astqO (r := (bN k, bT k, 3)) (E := RX9) hx hb hK hP hD hS q0 t0 qk (7 + k) ha ht (hN s hKf _ (cst_b (by omega)) rfl) hv (bcl k hk) (vp_in_nI hi (by omega)) hdg ?_
    rw [hc]; exact kk
theorem c_store (F : vv_F v l cc nL own nm ret hh R Kf (cWd D K fv A) A post) (G : cG A fv cIm Kf D K) {m : Nat} (hm : m = tn (n 0 13)) (h8 : m < 8) (hh8 : n 56 8 = 1) (hk : tn (n 67 8) ≤ 5) (d : decode cc pc = .ok (.aastore, 1)) (hq : pc + 1 = q)
    (kk : ∀ δ2, oth (200 + m) δ δ2 → δ2 (200 + m) = δ (200 + 8) → v (up (stN n 8 m) 0 60 1, δ2, ν) bc bs q ls st) : v (n, δ, ν) bc bs pc ls (.ref (δ (200 + 8)) :: .int (nI m) :: .ref (δ 1) :: st) := by
  obtain ⟨p, e, s, mm, args, below, meth, c, ⟨hx, hb, hml, hown, hts⟩, -, ⟨hKf, hA⟩, rfl⟩ := F
  subst hq
  intro H locs cells slots arr hW hS h1 h2 hl2
  obtain ⟨n', L, f, hag, hrp, htx, hpn, hP, hD⟩ := hW
  have h56 : n' 56 8 = 1 := (cAg.o (n := n) hag (by omega)).trans hh8
  obtain ⟨g1, g2⟩ := hrp.1 1 _ rfl
  obtain ⟨b1, b2⟩ := hrp.1 (200 + 8) _ (cE_h (by decide) h56)
  obtain ⟨q0, hq0⟩ := va_pl_get (X := []) (f := f) g1
  obtain ⟨qk, hqk⟩ := va_pl_get (X := []) (f := f) b1
  have hq1 := hq0
  rw [g2] at hq0
  rw [b2, cAg.o (n := n) hag (k := 67) (j := 8) (by omega)] at hqk
  refine va_astB (D := D) hx hb G.N hKf (G.2.1 s hKf) hP hD hS q0 4 qk _ hk hq0 rfl hqk h8 (by decide) d (fun H1 locs1 hP1 hD1 hS1 => ?_)
  have es := va_pl_set (X := []) (e := .inl (K 4, 8, rfs (va_up (fun p => if p < 8 ∧ n' 56 p ≠ 0 then some (δ (200 + p)) else none) m (some (δ (200 + 8)))))) hD g1 hq1
  rw [List.nil_append, List.nil_append] at es
  rw [es] at hP1 hD1
  have hd : oth (200 + m) δ (fun x => if x = 200 + m then δ (200 + 8) else δ x) := fun x hx => if_neg hx
  have hdm : (fun x => if x = 200 + m then δ (200 + 8) else δ x) (200 + m) = δ (200 + 8) := if_pos rfl
  refine kk _ hd hdm H1 locs1 cells slots arr ⟨up (stN n' 8 m) 0 60 1, L, _, cAg_store hag hm h8 (by decide), (hrp.store h8 (by decide) h56 hd hdm).gh (by decide), ?_, ?_, hP1, hD1⟩ hS1 h1 h2 hl2
  · exact cTx_eq (n := n) (by show tn (up (stN n 8 m) 0 60 1 0 3) + tn (up (stN n 8 m) 0 60 1 0 61) = _; rw [up_ne (by omega), up_ne (by omega), stN_ne (by omega) (by omega) (by omega), stN_ne (by omega) (by omega) (by omega)]) (by funext j; show up (stN n 8 m) 0 60 1 1 j = _; rw [up_ne (by omega), stN_ne (by omega) (by omega) (by omega)]) (by funext j; show up (stN n 8 m) 0 60 1 2 j = _; rw [up_ne (by omega), stN_ne (by omega) (by omega) (by omega)]) (fun x hx => hd x (by omega)) htx
  · exact cIm_eq (n := n) (fun j _ hj => by rw [up_ne (by omega), stN_ne (by omega) (by omega) (by omega)]) (fun j => by rw [up_ne (by omega), stN_ne (by omega) (by omega) (by omega)]) hpn
/-- a place that doesn't count is emptied -/
theorem c_null (F : vv_F v l cc nL own nm ret hh R Kf (cWd D K fv A) A post) (G : cG A fv cIm Kf D K) {m : Nat} (hm : tn (n 0 13) + tn (n 0 60) ≤ m) (h8 : m < 8) (d : decode cc pc = .ok (.aastore, 1)) (hq : pc + 1 = q) (kk : v (n, δ, ν) bc bs q ls st) : v (n, δ, ν) bc bs pc ls (.null :: .int (nI m) :: .ref (δ 1) :: st) := by
  obtain ⟨p, e, s, mm, args, below, meth, c, ⟨hx, hb, hml, hown, hts⟩, -, ⟨hKf, hA⟩, rfl⟩ := F
  subst hq
  intro H locs cells slots arr hW hS h1 h2 hl2
  obtain ⟨n', L, f, hag, hrp, htx, hpn, hP, hD⟩ := hW
  obtain ⟨g1, g2⟩ := hrp.1 1 _ rfl
  obtain ⟨q0, hq0⟩ := va_pl_get (X := []) (f := f) g1
  have hq1 := hq0
  rw [g2] at hq0
  refine va_astqN (D := D) (C := RX9) hx hb (G.2.1 s hKf) hP hD hS q0 4 hq0 rfl (vp_in_nI h8 (by decide)) d (fun H1 locs1 hP1 hD1 hS1 => ?_)
  rw [nI_clamp (by omega)] at hP1 hD1
  have es := va_pl_set (X := []) (e := .inl (K 4, 8, rfs (va_up (fun p => if p < 8 ∧ n' 56 p ≠ 0 then some (δ (200 + p)) else none) m none))) hD g1 hq1
  rw [List.nil_append, List.nil_append] at es
  rw [es] at hP1 hD1
  have hne : ∀ a b, ¬ (a = 56 ∧ b = m) → up n' 56 m 0 a b = n' a b := fun a b h => up_ne h
  refine kk H1 locs1 cells slots arr ⟨up n' 56 m 0, L, _, ⟨fun k j hc => ?_, fun p hp8 hp => ?_⟩, hrp.mv (δ2 := δ) (fun k => k) 1 rfl ?_ (e1 := .inl (K 4, 8, rfs (va_up (fun p => if p < 8 ∧ n' 56 p ≠ 0 then some (δ (200 + p)) else none) m none))) ?_ rfl rfl ?_ (fun _ _ _ _ _ _ h => h), htx, hpn, hP1, hD1⟩ hS1 h1 h2 hl2
  · rw [hne k j (fun e => by have := hc.2.2.2.2.2 e.1; omega)]
    exact hag.1 k j hc
  · have hp2 : p < tn (n 0 13) + tn (n 0 60) := hp
    rw [hne 56 p (by omega)]
    exact hag.2 p hp8 hp
  · intro c fs e; cases e
  · show some (Sum.inl (K 4, 8, rfs (fun p => if p < 8 ∧ up n' 56 m 0 56 p ≠ 0 then some (δ (200 + p)) else none))) = _
    rw [show (fun p => if p < 8 ∧ up n' 56 m 0 56 p ≠ 0 then some (δ (200 + p)) else none) = va_up (fun p => if p < 8 ∧ n' 56 p ≠ 0 then some (δ (200 + p)) else none) m none from funext fun p => by
      by_cases c : p = m
      · subst c; rw [va_up_self, up_eq, if_neg (fun e => e.2 rfl)]
      · rw [va_up_ne _ _ c, hne 56 p (by omega)]]
  · intro k e hk1 hk
    refine ⟨hk1, rfl, ?_⟩
    by_cases c : k = 200 + m
    · subst c
      rw [cE_none (by omega) (by rw [Nat.add_sub_cancel_left]; exact up_eq)] at hk
      cases hk
    · rw [cE_up] at hk
      · exact hk
      · intro hr
        have := (rdO_st (m := m) (h := m) hr hk1 c c).1
        exact this ⟨rfl, Or.inl rfl⟩
/-- the number of plantings -/
theorem c_putM (F : vv_F v l cc nL RX0 nm ret hh R Kf (cWd D K fv A) A post) (G : cG A fv cIm Kf D K) {x : Int32} {idx : Nat} (hxM : tn x ≤ tn (n 0 13) + tn (n 0 60)) (hl : Cond.fieldLink RX0 idx (TX0 1).1 (TX0 1).2.1 (TX0 1).2.2.1 ∈ lw_all) (d : decode cc pc = .ok (.putfield idx, 3)) (hq : pc + 3 = q) (kk : v (up (up n 0 13 x) 0 60 0, δ, ν) bc bs q ls st) : v (n, δ, ν) bc bs pc ls (.int x :: .ref (δ 0) :: st) := by
  obtain ⟨p, e, s, m, args, below, meth, c, ⟨hx, hb, hml, hown, hts⟩, -, ⟨hKf, hA⟩, rfl⟩ := F
  subst hq
  intro H locs cells slots arr hW hS h1 h2 hl2
  obtain ⟨n', L, f, hag0, hrp, htx, hpn, hP, hD⟩ := hW
  have hag : cAg n n' := hag0
  obtain ⟨g1, g2⟩ := hrp.1 0 (.inr (0, cF n' δ)) rfl
  obtain ⟨q0, hq0⟩ := va_pl_get (X := []) (f := f) g1
  have hq1 := hq0
  rw [g2] at hq0
  refine va_put (D := D) (ci := 0) (C := RX0) (T := TX0) (N := 31) hx hb hts in_X0 tyX0 tyX0_ok nmX0 hown (G.2.1 s hKf) hP hD hS q0 hq0 rfl 1 (by decide) (hts _ hl) (fun _ h9 => h9) rfl (show parseFieldDescriptor (TX0 1).2.2.1 = some .int by decide +kernel) rfl rfl (show 1 < 31 by decide) d (fun H1 locs1 hP1 hD1 hS1 => ?_)
  have es := va_pl_set (X := []) (e := .inr (0, (cF n' δ).set 1 (.int x))) hD g1 hq1
  rw [List.nil_append, List.nil_append] at es
  rw [es] at hP1 hD1
  have e0 : ∀ j, j ≠ 13 → j ≠ 60 → up (up n 0 13 x) 0 60 0 0 j = n 0 j := fun j h1 h2 => by rw [up_ne (by omega), up_ne (by omega)]
  have e13 : up (up n 0 13 x) 0 60 0 0 13 = x := by rw [up_ne (by omega), up_eq]
  have e60 : tn (up (up n 0 13 x) 0 60 0 0 60) = 0 := by rw [up_eq]; decide
  refine kk H1 locs1 cells slots arr ⟨up (up n' 0 13 x) 0 60 0, L, va_up f (δ 0) (.inr (0, cF (up n' 0 13 x) δ)), ⟨fun k j hc => ?_, fun p hp8 hp => ?_⟩, (hrp.set (n2 := up n' 0 13 x) (k := 0) (e := .inr (0, cF n' δ)) rfl rfl (fun j hj => cE_up (rdO_u0 hj (by decide) (by decide))) ?_).gh (by decide), ?_, ?_, hP1, hD1⟩ hS1 h1 h2 hl2
  · change crel (up (up n 0 13 x) 0 60 0) k j at hc
    show up (up n' 0 13 x) 0 60 0 k j = up (up n 0 13 x) 0 60 0 k j
    unfold crel at hc
    rw [e13, e60, e0 6 (by decide) (by decide), e0 58 (by decide) (by decide), e0 57 (by decide) (by decide), e0 33 (by decide) (by decide), e0 59 (by decide) (by decide), show up (up n 0 13 x) 0 60 0 40 (j / 40) = n 40 (j / 40) by rw [up_ne (by omega), up_ne (by omega)]] at hc
    by_cases k1 : k = 0 ∧ j = 60
    · obtain ⟨rfl, rfl⟩ := k1; rw [up_eq, up_eq]
    by_cases k2 : k = 0 ∧ j = 13
    · obtain ⟨rfl, rfl⟩ := k2; rw [up_ne (by omega), up_eq, up_ne (by omega), up_eq]
    rw [up_ne k1, up_ne k2, up_ne k1, up_ne k2]
    exact hag.1 k j ⟨fun e => by have := hc.1 e; omega, fun e => by have := hc.2.1 e; omega, hc.2.2.1, hc.2.2.2.1, hc.2.2.2.2.1, hc.2.2.2.2.2⟩
  · change p < tn (up (up n 0 13 x) 0 60 0 0 13) + tn (up (up n 0 13 x) 0 60 0 0 60) at hp
    rw [e13, e60] at hp
    rw [up_ne (by omega), up_ne (by omega)]
    exact hag.2 p hp8 (by omega)
  · intro c fs h; cases h; exact Or.inl (by decide)
  · show cTx (up (up n 0 13 x) 0 60 0) δ ν
    exact cTx_eq (n := n) (by rw [e0 3 (by decide) (by decide), e0 61 (by decide) (by decide)]) (by funext j; rw [up_ne (by omega), up_ne (by omega)]) (by funext j; rw [up_ne (by omega), up_ne (by omega)]) (fun _ _ => rfl) htx
  · exact cIm_eq (n := n) (fun j h1 hj => e0 j (by omega) (by omega)) (fun j => by rw [up_ne (by omega), up_ne (by omega)]) hpn
end CS
