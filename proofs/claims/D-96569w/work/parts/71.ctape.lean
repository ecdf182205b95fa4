/-! THE COMPONENT's WORLD: the tape, the image -/
set_option maxRecDepth 100000
section VC
variable {S : Type} {v : vv_T S} {l : Launch} {cc : ByteArray} {nL : Nat} {own nm : String} {ret : Option FieldType} {hh : List (Nat × Nat × Nat × Nat)} {R : Room} {Kf : State → Prop} {Wd : S → Heap → Prop} {A : Nat → Prop} {post : vv_O S}
variable {σ : S} {bc bs pc : Nat} {ls : List (Nat × Value)} {st : List Value}
/-- a walk over a weaker world whose end is strong enough -/
theorem v_conv2 {Wd' : S → Heap → Prop} {post' : vv_O S} (F : vv_F v l cc nL own nm ret hh R Kf Wd A post) (h1 : ∀ H, Wd σ H → Wd' σ H) (h2 : ∀ o u k n H, post' o u k n → Wd' u H → post o u k n ∧ Wd u H)
    (h : ∀ v' : vv_T S, vv_F v' l cc nL own nm ret hh R Kf Wd' A post' → v' σ bc bs pc ls st) : v σ bc bs pc ls st := by
  obtain ⟨p, e, s, m, args, below, meth, c, a1, a2, a3, rfl⟩ := F
  intro H locs cells slots arr hW hS g1 g2 hl
  refine vv_mono ?_ (h _ ⟨p, e, s, m, args, below, meth, c, a1, a2, a3, rfl⟩ H locs cells slots arr (h1 H hW) hS g1 g2 hl)
  rintro t ⟨o, b1, b2, k, n, b3, ⟨⟨u, b4, b5⟩, b6⟩, b7⟩
  obtain ⟨b8, b9⟩ := h2 o u k n _ b4 b5
  exact ⟨o, b1, b2, k, n, b3, ⟨⟨u, b8, b9⟩, b6⟩, b7⟩
end VC
/-- the relation holds on, where what counts afterwards counted before or is written to both alike -/
theorem cAg.wr {n n' n2 n2' : mS} (h : cAg n n') (h1 : ∀ k j, crel n2 k j → (n2' k j = n2 k j) ∨ (crel n k j ∧ n2 k j = n k j ∧ n2' k j = n' k j)) (h2 : ∀ p, p < 8 → p < tn (n2 0 13) + tn (n2 0 60) → p < tn (n 0 13) + tn (n 0 60) ∧ n2' 56 p = n' 56 p) : cAg n2 n2' := by
  refine ⟨fun k j hc => ?_, fun p hp hq => ?_⟩
  · rcases h1 k j hc with e | ⟨c, e1, e2⟩
    · exact e
    · rw [e1, e2]; exact h.1 k j c
  · obtain ⟨a, b⟩ := h2 p hp hq
    rw [b]; exact h.2 p hp a
section CT
variable {v : vv_T cS} {l : Launch} {cc : ByteArray} {nL : Nat} {own nm : String} {ret : Option FieldType} {hh : List (Nat × Nat × Nat × Nat)} {R : Room} {Kf : State → Prop} {D : va_G} {K : Nat → ClassId} {fv : List Value × (Nat → Nat)} {A : Nat → Prop} {Pn : cS → Prop} {post : vv_O cS}
variable {n n' : mS} {δ : Nat → Nat} {ν : Nat → Option (Mg × Nat)} {bc bs pc q : Nat} {ls : List (Nat × Value)} {st : List Value}
/-- a letter is put on the tape -/
theorem c_tst (F : vv_F v l cc nL own nm ret hh R Kf (cWd D K fv A) A post) (G : cG A fv cIm Kf D K) {j : Nat} {x : Int32} (hj : j = tn (n 0 6)) (h160 : j < 160) (d : decode cc pc = .ok (.bastore, 1)) (hq : pc + 1 = q) (kk : v (up (up n 5 j x) 0 58 (nI (j + 1)), δ, ν) bc bs q ls st) : v (n, δ, ν) bc bs pc ls (.int (Int8.toInt32 (Int32.toInt8 x)) :: .int (nI j) :: .ref (δ 12) :: st) := by
  obtain ⟨p, e, s, m, args, below, meth, c, ⟨hx, hb, hml, hown, hts⟩, -, ⟨hKf, hA⟩, rfl⟩ := F
  subst hq
  intro H locs cells slots arr hW hS h1 h2 hl2
  obtain ⟨n', L, f, hag0, hrp, htx, hpn, hP, hD⟩ := hW
  have hag : cAg n n' := hag0
  obtain ⟨g1, g2⟩ := hrp.1 12 _ rfl
  obtain ⟨q0, hq0⟩ := va_pl_get (X := []) (f := f) g1
  have hq1 := hq0
  rw [g2] at hq0
  refine va_bast (D := D) hx hb (G.2.1 s hKf) hP hD hS q0 2 hq0 rfl (vp_in_nI h160 (by decide)) d (fun H1 locs1 hP1 hD1 hS1 => ?_)
  rw [nI_clamp (by omega), show vp_nar .byte (Int8.toInt32 (Int32.toInt8 x)) = Int8.toInt32 (Int32.toInt8 x) by rw [vp_nar_byte, Int8.toInt8_toInt32]] at hP1 hD1
  have es := va_pl_set (X := []) (e := .inl (K 2, 160, .inl (upd (fun j => (n' 5 j).toInt8.toInt32) j (Int8.toInt32 (Int32.toInt8 x))))) hD g1 hq1
  rw [List.nil_append, List.nil_append] at es
  rw [es] at hP1 hD1
  have ee : (fun i => (up n' 5 j x 5 i).toInt8.toInt32) = upd (fun j => (n' 5 j).toInt8.toInt32) j (Int8.toInt32 (Int32.toInt8 x)) := by
    funext i
    unfold upd
    by_cases c : i = j
    · subst c; rw [up_eq, if_pos rfl]
    · rw [up_ne (by omega), if_neg c]
  refine kk H1 locs1 cells slots arr ⟨up (up n' 5 j x) 0 58 (nI (j + 1)), L, _, ?_, (hrp.set (n2 := up n' 5 j x) (k := 12) (e' := .inl (K 2, 160, .inl (upd (fun j => (n' 5 j).toInt8.toInt32) j (Int8.toInt32 (Int32.toInt8 x))))) rfl ?_ (fun i hi => cE_up (rdO_o (by rfl) (by decide) (by decide) (by decide) (by decide) i hi)) ?_).gh (by decide), ?_, ?_, hP1, hD1⟩ hS1 h1 h2 hl2
  · show cAg (up (up n 5 j x) 0 58 (nI (j + 1))) _
    refine hag.wr (fun k i hc => ?_) (fun p _ hp => ⟨?_, ?_⟩)
    · by_cases c1 : k = 0 ∧ i = 58
      · obtain ⟨rfl, rfl⟩ := c1; exact Or.inl (up_eq.trans up_eq.symm)
      by_cases c2 : k = 5 ∧ i = j
      · obtain ⟨rfl, rfl⟩ := c2; exact Or.inl ((up_ne (by omega)).trans (up_eq.trans ((up_ne (by omega)).trans up_eq).symm))
      refine Or.inr ⟨⟨hc.1, hc.2.1, fun e => ?_, hc.2.2.2.1, hc.2.2.2.2.1, hc.2.2.2.2.2⟩, ?_, ?_⟩
      · have h3 : i < tn (n 0 6) ∨ i < tn (nI (j + 1)) := hc.2.2.1 e
        rw [tn_nI (by omega)] at h3
        omega
      · show up (up n 5 j x) 0 58 _ k i = n k i
        rw [up_ne c1, up_ne c2]
      · rw [up_ne c1, up_ne c2]
    · exact hp
    · rw [up_ne (by omega), up_ne (by omega)]
  · show some (Sum.inl (K 2, 160, Sum.inl (fun i => (up n' 5 j x 5 i).toInt8.toInt32))) = _
    rw [ee]
  · intro c fs h; cases h
  · exact cTx_eq (n := n) rfl rfl rfl (fun _ _ => rfl) htx
  · exact cIm_eq (n := n) (fun i _ hj => by show up (up n 5 j x) 0 58 _ 0 i = n 0 i; rw [up_ne (by omega), up_ne (by omega)]) (fun i => rfl) hpn
/-- a letter on the tape that counts -/
theorem c_tld (F : vv_F v l cc nL own nm ret hh R Kf (cWd D K fv A) A post) (G : cG A fv cIm Kf D K) {j : Nat} (hj : j < tn (n 0 6) ∨ j < tn (n 0 58)) (h160 : j < 160) (d : decode cc pc = .ok (.baload, 1)) (hq : pc + 1 = q) (kk : v (n, δ, ν) bc bs q ls (.int (Int8.toInt32 (Int32.toInt8 (n 5 j))) :: st)) : v (n, δ, ν) bc bs pc ls (.int (nI j) :: .ref (δ 12) :: st) := by
  obtain ⟨p, e, s, m, args, below, meth, c, ⟨hx, hb, hml, hown, hts⟩, -, ⟨hKf, hA⟩, rfl⟩ := F
  subst hq
  intro H locs cells slots arr hW hS h1 h2 hl2
  obtain ⟨n', L, f, hag, hrp, htx, hpn, hP, hD⟩ := id hW
  obtain ⟨g1, g2⟩ := hrp.1 12 _ rfl
  obtain ⟨q0, hq0⟩ := va_pl_get (X := []) (f := f) g1
  rw [g2] at hq0
  refine va_bald (D := D) hx hb (G.2.1 s hKf) hP q0 2 hq0 rfl (vp_in_nI h160 (by decide)) d ?_
  rw [nI_clamp (by omega), show n' 5 j = n 5 j from (show cAg n n' from hag).1 5 j ⟨fun e => (by cases e), fun e => (by cases e), fun _ => hj, fun e => (by cases e), fun e => (by cases e), fun e => (by cases e)⟩]
  exact kk H locs cells slots arr hW hS h1 h2 hl2
/-- how much is on the tape -/
theorem c_putT (F : vv_F v l cc nL RX0 nm ret hh R Kf (cWd D K fv A) A post) (G : cG A fv cIm Kf D K) {x : Int32} {idx : Nat} (hxM : tn x ≤ tn (n 0 6) ∨ tn x ≤ tn (n 0 58)) (hl : Cond.fieldLink RX0 idx (TX0 13).1 (TX0 13).2.1 (TX0 13).2.2.1 ∈ lw_all) (d : decode cc pc = .ok (.putfield idx, 3)) (hq : pc + 3 = q) (kk : v (up n 0 6 x, δ, ν) bc bs q ls st) : v (n, δ, ν) bc bs pc ls (.int x :: .ref (δ 0) :: st) := by
  obtain ⟨p, e, s, m, args, below, meth, c, ⟨hx, hb, hml, hown, hts⟩, -, ⟨hKf, hA⟩, rfl⟩ := F
  subst hq
  intro H locs cells slots arr hW hS h1 h2 hl2
  obtain ⟨n', L, f, hag0, hrp, htx, hpn, hP, hD⟩ := hW
  have hag : cAg n n' := hag0
  obtain ⟨g1, g2⟩ := hrp.1 0 (.inr (0, cF n' δ)) rfl
  obtain ⟨q0, hq0⟩ := va_pl_get (X := []) (f := f) g1
  have hq1 := hq0
  rw [g2] at hq0
  refine va_put (D := D) (ci := 0) (C := RX0) (T := TX0) (N := 31) hx hb hts in_X0 tyX0 tyX0_ok nmX0 hown (G.2.1 s hKf) hP hD hS q0 hq0 rfl 13 (by decide) (hts _ hl) (fun _ h9 => h9) rfl (show parseFieldDescriptor (TX0 13).2.2.1 = some .int by decide +kernel) rfl rfl (show 13 < 31 by decide) d (fun H1 locs1 hP1 hD1 hS1 => ?_)
  have es := va_pl_set (X := []) (e := .inr (0, (cF n' δ).set 13 (.int x))) hD g1 hq1
  rw [List.nil_append, List.nil_append] at es
  rw [es] at hP1 hD1
  refine kk H1 locs1 cells slots arr ⟨up n' 0 6 x, L, va_up f (δ 0) (.inr (0, cF (up n' 0 6 x) δ)), ?_, hrp.set (n2 := up n' 0 6 x) (k := 0) (e := .inr (0, cF n' δ)) rfl rfl (fun j hj => cE_up (rdO_u0 hj (by decide) (by decide))) ?_, ?_, ?_, hP1, hD1⟩ hS1 h1 h2 hl2
  · show cAg (up n 0 6 x) _
    refine hag.wr (fun k i hc => ?_) (fun p _ hp => ⟨hp, ?_⟩)
    · by_cases c1 : k = 0 ∧ i = 6
      · obtain ⟨rfl, rfl⟩ := c1; exact Or.inl (up_eq.trans up_eq.symm)
      refine Or.inr ⟨⟨hc.1, hc.2.1, fun e => ?_, hc.2.2.2.1, hc.2.2.2.2.1, hc.2.2.2.2.2⟩, up_ne c1, up_ne c1⟩
      have h3 : i < tn x ∨ i < tn (n 0 58) := hc.2.2.1 e
      omega
    · rw [up_ne (by omega)]
  · intro c fs h; cases h; exact Or.inl (by decide)
  · exact cTx_eq (n := n) rfl rfl rfl (fun _ _ => rfl) htx
  · exact cIm_eq (n := n) (fun i _ hj => by show up n 0 6 x 0 i = n 0 i; rw [up_ne (by omega)]) (fun i => rfl) hpn
theorem cE_i {w : Nat} (hw : w < 3) : cE K fv n δ (140 + w) = some (.inl (K 0, 8, .inl (fun p => n 32 (3 * p + w)))) := by
  unfold cE cE1
  rw [if_neg (by omega), if_neg (by omega), if_pos (by omega), Nat.add_sub_cancel_left]
/-- a row of the image is written, one number behind the other -/
theorem c_ist (F : vv_F v l cc nL own nm ret hh R Kf (cWd D K fv A) A post) (G : cG A fv cIm Kf D K) {t w : Nat} {x : Int32} (hw : w < 3) (ht : t < 8) (h59 : n 0 59 = nI (3 * t + w)) (d : decode cc pc = .ok (.iastore, 1)) (hq : pc + 1 = q) (kk : v (up (up n 32 (3 * t + w) x) 0 59 (nI (3 * t + w + 1)), δ, ν) bc bs q ls st) : v (n, δ, ν) bc bs pc ls (.int x :: .int (nI t) :: .ref (δ (140 + w)) :: st) := by
  obtain ⟨p, e, s, m, args, below, meth, c, ⟨hx, hb, hml, hown, hts⟩, -, ⟨hKf, hA⟩, rfl⟩ := F
  subst hq
  intro H locs cells slots arr hW hS h1 h2 hl2
  obtain ⟨n', L, f, hag0, hrp, htx, hpn, hP, hD⟩ := hW
  have hag : cAg n n' := hag0
  obtain ⟨g1, g2⟩ := hrp.1 (140 + w) _ (cE_i hw)
  obtain ⟨q0, hq0⟩ := va_pl_get (X := []) (f := f) g1
  have hq1 := hq0
  rw [g2] at hq0
  refine va_iast (D := D) hx hb (G.2.1 s hKf) hP hD hS q0 0 hq0 rfl (vp_in_nI ht (by decide)) d (fun H1 locs1 hP1 hD1 hS1 => ?_)
  rw [nI_clamp (by omega)] at hP1 hD1
  have es := va_pl_set (X := []) (e := .inl (K 0, 8, .inl (upd (fun p => n' 32 (3 * p + w)) t x))) hD g1 hq1
  rw [List.nil_append, List.nil_append] at es
  rw [es] at hP1 hD1
  have ee : (fun p => up n' 32 (3 * t + w) x 32 (3 * p + w)) = upd (fun p => n' 32 (3 * p + w)) t x := by
    funext i
    unfold upd
    by_cases c : i = t
    · subst c; rw [up_eq, if_pos rfl]
    · rw [up_ne (by omega), if_neg c]
  refine kk H1 locs1 cells slots arr ⟨up (up n' 32 (3 * t + w) x) 0 59 (nI (3 * t + w + 1)), L, _, ?_, (hrp.set (n2 := up n' 32 (3 * t + w) x) (k := 140 + w) (e' := .inl (K 0, 8, .inl (upd (fun p => n' 32 (3 * p + w)) t x))) (cE_i hw) ?_ (fun i hi => cE_up (rdO_o (by show 140 + (3 * t + w) % 3 = 140 + w; omega) (by decide) (by decide) (by decide) (by decide) i hi)) ?_).gh (by decide), ?_, ?_, hP1, hD1⟩ hS1 h1 h2 hl2
  · show cAg (up (up n 32 (3 * t + w) x) 0 59 (nI (3 * t + w + 1))) _
    refine hag.wr (fun k i hc => ?_) (fun p _ hp => ⟨hp, ?_⟩)
    · by_cases c1 : k = 0 ∧ i = 59
      · obtain ⟨rfl, rfl⟩ := c1; exact Or.inl (up_eq.trans up_eq.symm)
      by_cases c2 : k = 32 ∧ i = 3 * t + w
      · obtain ⟨rfl, rfl⟩ := c2; exact Or.inl ((up_ne (by omega)).trans (up_eq.trans ((up_ne (by omega)).trans up_eq).symm))
      refine Or.inr ⟨⟨hc.1, hc.2.1, hc.2.2.1, fun e => ?_, hc.2.2.2.2.1, hc.2.2.2.2.2⟩, ?_, ?_⟩
      · have h3 : (n 0 57 = 1 ∧ i < 3 * tn (n 0 33)) ∨ i < tn (nI (3 * t + w + 1)) := hc.2.2.2.1 e
        rw [tn_nI (by omega)] at h3
        rw [h59, tn_nI (by omega)]
        rcases h3 with h3 | h3
        · exact Or.inl h3
        · exact Or.inr (by omega)
      · show up (up n 32 _ x) 0 59 _ k i = n k i
        rw [up_ne c1, up_ne c2]
      · rw [up_ne c1, up_ne c2]
    · rw [up_ne (by omega), up_ne (by omega)]
  · rw [cE_i hw, ee]
  · intro c fs h; cases h
  · exact cTx_eq (n := n) rfl rfl rfl (fun _ _ => rfl) htx
  · exact cIm_eq (n := n) (fun i _ hj => by show up (up n 32 _ x) 0 59 _ 0 i = n 0 i; rw [up_ne (by omega), up_ne (by omega)]) (fun i => rfl) hpn
/-- a row of the image that counts -/
theorem c_ild (F : vv_F v l cc nL own nm ret hh R Kf (cWd D K fv A) A post) (G : cG A fv cIm Kf D K) {t w : Nat} (hw : w < 3) (ht : t < 8) (h57 : n 0 57 = 1 ∧ 3 * t + w < 3 * tn (n 0 33)) (d : decode cc pc = .ok (.iaload, 1)) (hq : pc + 1 = q) (kk : v (n, δ, ν) bc bs q ls (.int (n 32 (3 * t + w)) :: st)) : v (n, δ, ν) bc bs pc ls (.int (nI t) :: .ref (δ (140 + w)) :: st) := by
  obtain ⟨p, e, s, m, args, below, meth, c, ⟨hx, hb, hml, hown, hts⟩, -, ⟨hKf, hA⟩, rfl⟩ := F
  subst hq
  intro H locs cells slots arr hW hS h1 h2 hl2
  obtain ⟨n', L, f, hag, hrp, htx, hpn, hP, hD⟩ := id hW
  obtain ⟨g1, g2⟩ := hrp.1 (140 + w) _ (cE_i hw)
  obtain ⟨q0, hq0⟩ := va_pl_get (X := []) (f := f) g1
  rw [g2] at hq0
  refine va_iald (D := D) hx hb (G.2.1 s hKf) hP q0 0 hq0 rfl (vp_in_nI ht (by decide)) d ?_
  rw [nI_clamp (by omega), show n' 32 (3 * t + w) = n 32 (3 * t + w) from (show cAg n n' from hag).1 32 _ ⟨fun e => (by cases e), fun e => (by cases e), fun e => (by cases e), fun _ => Or.inl h57, fun e => (by cases e), fun e => (by cases e)⟩]
  exact kk H locs cells slots arr hW hS h1 h2 hl2
theorem cpN_ne {a c N k j : Nat} (h : ¬ (k = a ∧ j < N)) : cpN a c N n k j = n k j := if_neg h
/-- a whole row of ints is copied -/
theorem c_cpy (F : vv_F v l cc nL own nm ret hh R Kf (cWd D K fv A) A post) (G : cG A fv cIm Kf D K) (k0 a0 k1 a1 : Nat) {idx : Nat} (hE0 : ∀ m : mS, cE K fv m δ k0 = some (.inl (K 0, 8, .inl (m a0)))) (hE1 : ∀ m : mS, cE K fv m δ k1 = some (.inl (K 0, 8, .inl (m a1)))) (hi : ∀ t, rdI a1 t = k1) (hr : rowO a0 ∧ rowO a1) (hf : a1 ≠ 0 ∧ a1 ≠ 38 ∧ a1 ≠ 1 ∧ a1 ≠ 2 ∧ a1 ≠ 40 ∧ a1 ≠ 63 ∧ a1 < 1000)
    (hl : Cond.methodLink own idx arraycopyName ∈ lw_all) (hn : Cond.native arraycopyName ∈ lw_all) (hs : Cond.static arraycopyName ∈ lw_all) (hin : Cond.initialized "java/lang/System" ∈ lw_all) (hfr : 1 ≤ R.frames) (hlo : (st.map fun v => v.category).sum + (nativeFrameWords "java/lang/System" "arraycopy" 5 + 11) ≤ R.locals) (d : decode cc pc = .ok (.invokestatic idx, 3)) (hq : pc + 3 = q) (kk : v (cpN a1 a0 8 n, δ, ν) bc bs q ls st) : v (n, δ, ν) bc bs pc ls (.int 8 :: .int 0 :: .ref (δ k1) :: .int 0 :: .ref (δ k0) :: st) := by
  obtain ⟨p, e, s, m, args, below, meth, c, ⟨hx, hb, hml, hown, hts⟩, -, ⟨hKf, hA⟩, rfl⟩ := F
  subst hq
  intro H locs cells slots arr hW hS h1 h2 hl2
  obtain ⟨n', L, f, hag0, hrp, htx, hpn, hP, hD⟩ := hW
  have hag : cAg n n' := hag0
  obtain ⟨g1, g2⟩ := hrp.1 k1 _ (hE1 n')
  obtain ⟨b1, b2⟩ := hrp.1 k0 _ (hE0 n')
  obtain ⟨q1, hq1⟩ := va_pl_get (X := []) (f := f) g1
  obtain ⟨q0, hq0⟩ := va_pl_get (X := []) (f := f) b1
  have hq2 := hq1
  rw [g2] at hq1
  rw [b2] at hq0
  have e8 : (8 : Int32).toNatClampNeg = 8 := by decide
  have e0 : (0 : Int32).toNatClampNeg = 0 := by decide
  refine va_copyi (D := D) (ty := .int) hx hb (hml.trans hl2.1.symm) hown (hts _ hl) (hts _ hn) (hts _ hs) (hts _ hin) (G.2.1 s hKf) hP hD hS q0 q1 0 0 hq0 hq1 rfl rfl rfl (by decide) (by decide) (by decide) (by rw [e8, e0]; decide) (by rw [e8, e0]; decide) (fun _ _ => rfl) hfr hlo d (fun H1 locs1 hP1 hD1 hS1 => ?_)
  rw [e8, e0] at hP1 hD1
  have es := va_pl_set (X := []) (e := .inl (K 0, 8, .inl (va_cpy (n' a0) (n' a1) 0 0 8))) hD g1 hq2
  rw [List.nil_append, List.nil_append] at es
  rw [es] at hP1 hD1
  have ee : cpN a1 a0 8 n' a1 = va_cpy (n' a0) (n' a1) 0 0 8 := by
    funext j
    unfold cpN va_cpy
    by_cases c : j < 8
    · rw [if_pos ⟨rfl, c⟩, if_pos (by omega), Nat.zero_add, Nat.sub_zero]
    · rw [if_neg (fun e => c e.2), if_neg (by omega)]
  have hne : ∀ (x : mS) k j, k ≠ a1 → cpN a1 a0 8 x k j = x k j := fun x k j hk => if_neg (fun e => hk e.1)
  refine kk H1 locs1 cells slots arr ⟨cpN a1 a0 8 n', L, _, ?_, hrp.set (n2 := cpN a1 a0 8 n') (k := k1) (hE1 n') (by rw [hE1, ee]) (fun i hi2 => cE_congr (fun a b hab => ?_)) (fun c fs h => by cases h), ?_, ?_, hP1, hD1⟩ hS1 h1 h2 hl2
  · show cAg (cpN a1 a0 8 n) _
    refine hag.wr (fun k i hc => ?_) (fun p _ hp => ⟨?_, ?_⟩)
    · by_cases c1 : k = a1
      · refine Or.inl ?_
        subst c1
        show cpN k a0 8 n' k i = cpN k a0 8 n k i
        unfold cpN
        rw [hag.row hr.1, hag.row hr.2]
      · have hk0 : ∀ j, cpN a1 a0 8 n 0 j = n 0 j := fun j => hne n 0 j (fun e => hf.1 e.symm)
        have hc2 : crel n k i := (crel_bits (n2 := cpN a1 a0 8 n) (hk0 13) (hk0 60) (hk0 6) (hk0 58) (hk0 57) (hk0 33) (hk0 59) (hne n 40 _ (fun e => hf.2.2.2.2.1 e.symm))).mp hc
        exact Or.inr ⟨hc2, hne n k i c1, hne n' k i c1⟩
    · have : p < tn (cpN a1 a0 8 n 0 13) + tn (cpN a1 a0 8 n 0 60) := hp
      rw [hne n 0 13 (fun e => hf.1 e.symm), hne n 0 60 (fun e => hf.1 e.symm)] at this
      exact this
    · exact hne n' 56 p (fun e => hr.2.2.2.2.2.2 e.symm)
  · refine hne n' a b (fun e => ?_)
    subst e
    exact rdO_o (hi b) hf.1 hr.2.2.2.2.2.2 hf.2.1 hf.2.2.2.2.2.2 i hi2 hab
  · exact cTx_eq (n := n) (by rw [show (cpN a1 a0 8 n, δ, ν).1 0 3 = n 0 3 from hne n 0 3 (fun e => hf.1 e.symm), show (cpN a1 a0 8 n, δ, ν).1 0 61 = n 0 61 from hne n 0 61 (fun e => hf.1 e.symm)]) (funext fun j => hne n 1 j (fun e => hf.2.2.1 e.symm)) (funext fun j => hne n 2 j (fun e => hf.2.2.2.1 e.symm)) (fun _ _ => rfl) htx
  · exact cIm_eq (n := n) (fun i _ _ => hne n 0 i (fun e => hf.1 e.symm)) (fun i => hne n 63 i (fun e => hf.2.2.2.2.2.1 e.symm)) hpn
end CT
/-- the numbers behind image() -/
def imF (n : mS) : mS := up (up (up (up (up (up (up (cpN 32 12 24 n) 0 33 (n 0 13)) 0 34 (n 0 7)) 0 35 (n 0 8)) 0 36 (n 0 9)) 0 37 (n 0 4)) 0 57 1) 0 59 0
theorem imF_ne {n : mS} {k j : Nat} (h1 : ¬ (k = 0 ∧ ((33 ≤ j ∧ j ≤ 37) ∨ j = 57 ∨ j = 59))) (h2 : ¬ (k = 32 ∧ j < 24)) : imF n k j = n k j := by
  unfold imF
  rw [up_ne (by omega), up_ne (by omega), up_ne (by omega), up_ne (by omega), up_ne (by omega), up_ne (by omega), up_ne (by omega), cpN_ne h2]
section CI
variable {v : vv_T cS} {l : Launch} {cc : ByteArray} {nL : Nat} {own nm : String} {ret : Option FieldType} {hh : List (Nat × Nat × Nat × Nat)} {R : Room} {Kf : State → Prop} {D : va_G} {K : Nat → ClassId} {fv : List Value × (Nat → Nat)} {A : Nat → Prop} {Pn : cS → Prop} {post : vv_O cS}
variable {n n' : mS} {δ : Nat → Nat} {ν : Nat → Option (Mg × Nat)} {bc bs pc q : Nat} {ls : List (Nat × Value)} {st : List Value}
/-- the image's numbers are written -/
theorem c_ast63 (F : vv_F v l cc nL own nm ret hh R Kf (cWdP Pn D K fv A) A post) (G : cG A fv Pn Kf D K) (hPn : ∀ τ, Pn τ) {t : Nat} {x : Int32} (ht : t < 5) (d : decode cc pc = .ok (.iastore, 1)) (hq : pc + 1 = q) (kk : v (up n 63 t x, δ, ν) bc bs q ls st) : v (n, δ, ν) bc bs pc ls (.int x :: .int (nI t) :: .ref (δ 29) :: st) := by
  obtain ⟨p, e, s, m, args, below, meth, c, ⟨hx, hb, hml, hown, hts⟩, -, ⟨hKf, hA⟩, rfl⟩ := F
  subst hq
  intro H locs cells slots arr hW hS h1 h2 hl2
  obtain ⟨n', L, f, hag0, hrp, htx, hpn, hP, hD⟩ := hW
  have hag : cAg n n' := hag0
  obtain ⟨g1, g2⟩ := hrp.1 29 _ rfl
  obtain ⟨q0, hq0⟩ := va_pl_get (X := []) (f := f) g1
  have hq1 := hq0
  rw [g2] at hq0
  refine va_iast (D := D) hx hb (G.2.1 s hKf) hP hD hS q0 0 hq0 rfl (vp_in_nI ht (by decide)) d (fun H1 locs1 hP1 hD1 hS1 => ?_)
  rw [nI_clamp (by omega)] at hP1 hD1
  have es := va_pl_set (X := []) (e := .inl (K 0, 5, .inl (upd (n' 63) t x))) hD g1 hq1
  rw [List.nil_append, List.nil_append] at es
  rw [es] at hP1 hD1
  refine kk H1 locs1 cells slots arr ⟨up n' 63 t x, L, _, ?_, hrp.set (n2 := up n' 63 t x) (k := 29) (e' := .inl (K 0, 5, .inl (upd (n' 63) t x))) rfl ?_ (fun i hi => cE_up (rdO_o (by rfl) (by decide) (by decide) (by decide) (by decide) i hi)) (fun c fs h => by cases h), ?_, hPn _, hP1, hD1⟩ hS1 h1 h2 hl2
  · show cAg (up n 63 t x) _
    refine hag.wr (fun k i hc => ?_) (fun p _ hp => ⟨hp, ?_⟩)
    · by_cases c1 : k = 63 ∧ i = t
      · obtain ⟨rfl, rfl⟩ := c1; exact Or.inl (up_eq.trans up_eq.symm)
      exact Or.inr ⟨hc, up_ne c1, up_ne c1⟩
    · rw [up_ne (by omega)]
  · show some (Sum.inl (K 0, 5, Sum.inl (up n' 63 t x 63))) = _
    rw [up_upd]
  · exact cTx_eq (n := n) rfl rfl rfl (fun _ _ => rfl) htx
/-- hasImage: the image is whole -/
theorem c_img (F : vv_F v l cc nL RX0 nm ret hh R Kf (cWdP Pn D K fv A) A post) (G : cG A fv Pn Kf D K) (hPn : ∀ τ, Pn τ) {idx : Nat} (h8 : tn (n 0 13) ≤ 8) (h59 : n 0 59 = nI (3 * tn (n 0 13))) (h32 : ∀ j, j < 3 * tn (n 0 13) → n 32 j = n 12 j) (hl : Cond.fieldLink RX0 idx (TX0 26).1 (TX0 26).2.1 (TX0 26).2.2.1 ∈ lw_all) (d : decode cc pc = .ok (.putfield idx, 3)) (hq : pc + 3 = q) (kk : v (imF n, δ, ν) bc bs q ls st) : v (n, δ, ν) bc bs pc ls (.int 1 :: .ref (δ 0) :: st) := by
  obtain ⟨p, e, s, m, args, below, meth, c, ⟨hx, hb, hml, hown, hts⟩, -, ⟨hKf, hA⟩, rfl⟩ := F
  subst hq
  intro H locs cells slots arr hW hS h1 h2 hl2
  obtain ⟨n', L, f, hag0, hrp, htx, hpn, hP, hD⟩ := hW
  have hag : cAg n n' := hag0
  obtain ⟨g1, g2⟩ := hrp.1 0 (.inr (0, cF n' δ)) rfl
  obtain ⟨q0, hq0⟩ := va_pl_get (X := []) (f := f) g1
  have hq1 := hq0
  rw [g2] at hq0
  refine va_put (D := D) (ci := 0) (C := RX0) (T := TX0) (N := 31) hx hb hts in_X0 tyX0 tyX0_ok nmX0 hown (G.2.1 s hKf) hP hD hS q0 hq0 rfl 26 (by decide) (hts _ hl) (fun _ h9 => h9) rfl (show parseFieldDescriptor (TX0 26).2.2.1 = some .boolean by decide +kernel) rfl rfl (show 26 < 31 by decide) d (fun H1 locs1 hP1 hD1 hS1 => ?_)
  have es := va_pl_set (X := []) (e := .inr (0, (cF n' δ).set 26 (.int 1))) hD g1 hq1
  rw [List.nil_append, List.nil_append] at es
  rw [es] at hP1 hD1
  have hraw : ∀ k j, ¬ (k = 0 ∧ ((33 ≤ j ∧ j ≤ 37) ∨ j = 57 ∨ j = 59)) → (fun k j => if k = 0 then imF n 0 j else n' k j) k j = n' k j := by
    intro k j h
    by_cases c : k = 0
    · subst c
      show (if 0 = 0 then imF n 0 j else n' 0 j) = n' 0 j
      rw [if_pos rfl, imF_ne h (by omega), hag.z]
    · exact if_neg c
  have ecf : cF (fun k j => if k = 0 then imF n 0 j else n' k j) δ = (cF n' δ).set 26 (.int 1) := by
    have g : ∀ j, ¬ ((33 ≤ j ∧ j ≤ 37) ∨ j = 57 ∨ j = 59) → (fun k j => if k = 0 then imF n 0 j else n' k j) 0 j = n' 0 j := fun j hj => hraw 0 j (fun e => hj e.2)
    unfold cF
    rw [g 13 (by decide), g 7 (by decide), g 8 (by decide), g 9 (by decide), g 50 (by decide), g 3 (by decide), g 6 (by decide), g 51 (by decide), g 52 (by decide), g 53 (by decide), g 54 (by decide), g 55 (by decide), g 56 (by decide), g 4 (by decide)]
    rfl
  refine kk H1 locs1 cells slots arr ⟨fun k j => if k = 0 then imF n 0 j else n' k j, L, va_up f (δ 0) (.inr (0, (cF n' δ).set 26 (.int 1))), ?_, hrp.set (k := 0) (e := .inr (0, cF n' δ)) rfl (by show some (Sum.inr (0, cF (fun k j => if k = 0 then imF n 0 j else n' k j) δ)) = _; rw [ecf]) (fun j hj => cE_congr (fun a b hab => hraw a b ?_)) ?_, ?_, hPn _, hP1, hD1⟩ hS1 h1 h2 hl2
  · have e33 : imF n 0 33 = n 0 13 := by unfold imF; rw [up_ne (by omega), up_ne (by omega), up_ne (by omega), up_ne (by omega), up_ne (by omega), up_ne (by omega), up_eq]
    have e59 : imF n 0 59 = 0 := up_eq
    show cAg (imF n) _
    refine hag.wr (fun k i hc => ?_) (fun p _ hp => ⟨?_, hraw 56 p (by omega)⟩)
    · by_cases c0 : k = 0
      · subst c0; exact Or.inl (if_pos rfl)
      by_cases c1 : k = 32 ∧ i < 24
      · obtain ⟨rfl, hi⟩ := c1
        have h3 := hc.2.2.2.1 rfl
        rw [e33, e59, show tn (0 : Int32) = 0 by decide] at h3
        have hlt : i < 3 * tn (n 0 13) := by omega
        refine Or.inl ?_
        rw [if_neg (by decide)]
        have a1 : n' 32 i = n 32 i := hag.1 32 i ⟨fun e => (by cases e), fun e => (by cases e), fun e => (by cases e), fun _ => Or.inr (by rw [h59, tn_nI (by omega)]; exact hlt), fun e => (by cases e), fun e => (by cases e)⟩
        rw [a1, h32 i hlt]
        unfold imF
        rw [up_ne (by omega), up_ne (by omega), up_ne (by omega), up_ne (by omega), up_ne (by omega), up_ne (by omega), up_ne (by omega)]
        exact (if_pos ⟨rfl, hi⟩).symm
      · have hk0 : ∀ j, ¬ ((33 ≤ j ∧ j ≤ 37) ∨ j = 57 ∨ j = 59) → imF n 0 j = n 0 j := fun j hj => imF_ne (fun e => hj e.2) (by omega)
        refine Or.inr ⟨⟨fun e => ?_, fun e => ?_, fun e => ?_, fun e => ?_, fun e => ?_, hc.2.2.2.2.2⟩, imF_ne (fun e => c0 e.1) c1, hraw k i (fun e => c0 e.1)⟩
        · have := hc.1 e; rw [hk0 13 (by decide), hk0 60 (by decide)] at this; exact this
        · have := hc.2.1 e; rw [hk0 13 (by decide), hk0 60 (by decide)] at this; exact this
        · have := hc.2.2.1 e; rw [hk0 6 (by decide), hk0 58 (by decide)] at this; exact this
        · have h3 := hc.2.2.2.1 e
          rw [e33, e59, show tn (0 : Int32) = 0 by decide] at h3
          have : ¬ i < 24 := fun h => c1 ⟨e, h⟩
          omega
        · have := hc.2.2.2.2.1 e; rw [imF_ne (n := n) (k := 40) (by omega) (by omega)] at this; exact this
    · have hp2 : p < tn (imF n 0 13) + tn (imF n 0 60) := hp
      rw [imF_ne (n := n) (k := 0) (j := 13) (by omega) (by omega), imF_ne (n := n) (k := 0) (j := 60) (by omega) (by omega)] at hp2
      exact hp2
  · rintro ⟨rfl, hb⟩
    exact rdO_u0 hj (by omega) (by omega) hab
  · intro c fs h; cases h; exact Or.inl (by decide)
  · exact cTx_eq (n := n) (by show tn (imF n 0 3) + tn (imF n 0 61) = _; rw [imF_ne (by omega) (by omega), imF_ne (by omega) (by omega)]) (funext fun j => imF_ne (k := 1) (j := j) (by omega) (by omega)) (funext fun j => imF_ne (k := 2) (j := j) (by omega) (by omega)) (fun _ _ => rfl) htx
theorem imF_im {h8 : tn (n 0 13) ≤ 8} (hM : n 0 13 = nI (tn (n 0 13))) (h63 : n 63 0 = n 0 13 ∧ n 63 1 = n 0 7 ∧ n 63 2 = n 0 8 ∧ n 63 3 = n 0 9 ∧ n 63 4 = n 0 4) : cIm (imF n, δ, ν) := by
  refine Or.inr ⟨rfl, ?_, fun j hj => ?_⟩
  · show okN (n 0 13) 8
    exact ⟨hM, h8⟩
  · rcases (show j = 0 ∨ j = 1 ∨ j = 2 ∨ j = 3 ∨ j = 4 by omega) with rfl | rfl | rfl | rfl | rfl
    · exact h63.1
    · exact h63.2.1
    · exact h63.2.2.1
    · exact h63.2.2.2.1
    · exact h63.2.2.2.2
/-- numbers that don't count may be called otherwise -/
theorem c_ghost (F : vv_F v l cc nL own nm ret hh R Kf (cWd D K fv A) A post) {n2 : mS} (h0 : ∀ j, n2 0 j = n 0 j) (h1 : ∀ k j, crel n k j → n2 k j = n k j) (h40 : n2 40 = n 40) (h12 : n2 1 = n 1 ∧ n2 2 = n 2 ∧ n2 63 = n 63) (k : v (n2, δ, ν) bc bs pc ls st) : v (n, δ, ν) bc bs pc ls st := by
  refine v_ghost F (fun H hW => ?_) k
  obtain ⟨n', L, f, hag0, hrp, htx, hpn, hlw⟩ := hW
  have hag : cAg n n' := hag0
  refine ⟨n', L, f, ⟨fun k j hc => ?_, fun p hp8 hp => ?_⟩, hrp, ?_, ?_, hlw⟩
  · have hc2 : crel n k j := (crel_bits (n2 := n2) (h0 13) (h0 60) (h0 6) (h0 58) (h0 57) (h0 33) (h0 59) (congrFun h40 _)).mp hc
    show n' k j = n2 k j
    rw [h1 k j hc2]; exact hag.1 k j hc2
  · have hp2 : p < tn (n2 0 13) + tn (n2 0 60) := hp
    rw [h0, h0] at hp2
    exact hag.2 p hp8 hp2
  · exact cTx_eq (n := n) (by show tn (n2 0 3) + tn (n2 0 61) = _; rw [h0, h0]) h12.1 h12.2.1 (fun _ _ => rfl) htx
  · exact cIm_eq (n := n) (fun j _ _ => h0 j) (fun j => congrFun h12.2.2 j) hpn
end CI
