set_option maxRecDepth 100000
def rotU (k v s : Int32) : Int32 := if k = 1 ∨ k = 3 then v + 10 else if k = 2 then v / 2 else if k = 4 then v / 2 + s else if k = 5 ∧ v < 50 then 50 else v
def groU (k n s m y : Int32) : Int32 := if k = 5 ∨ (k = 4 ∧ y - y / 2 * 2 = 1) then n else if k = 2 ∨ k = 4 then n + n / 2 else if k = 0 then (if 3 < s then 2 * n else n) else if k = 1 then (if 0 < n then (if 3 < s then 2 * n else n) + m else (if 3 < s then 2 * n else n)) else (if 0 < n then (if 3 < s then 2 * n else n) + m else (if 3 < s then 2 * n else n)) + n
def floU (k n m : Int32) : Int32 := if k = 1 then 2 * n else if k = 2 then n / 3 else if k = 3 then (if 0 < n then 2 * n + m else 2 * n) else if k = 4 then 0 else n
theorem rotF_U {k v s : Int32} : rotF k v s = cl (rotU k v s) 0 100 := rfl
theorem groF_U {k n s m y : Int32} : groF k n s m y = cl (groU k n s m y) 0 9999 := by unfold groF groU; grind
theorem floF_U {k n m : Int32} (h : 0 ≤ n) : floF k n m = cl (floU k n m) 0 99999 := by
  unfold floF floU
  by_cases hn : 0 < n
  · simp [hn]
  · have e : n = 0 := by grind
    subst e
    simp
theorem od_kind : vv_od yX9_kind 0 := ⟨by decide +kernel, by decide +kernel, q268, vv_decl q266 q289⟩
abbrev vy_kind : Nat → MethodName := sel6 yX9_kind yX10_kind yX11_kind yX12_kind yX13_kind yX14_kind
abbrev vw_kind : Nat → List Cond := sel6 (ws_ yX9_kind cX9_kind 1 (some .int)) (ws_ yX10_kind cX10_kind 1 (some .int)) (ws_ yX11_kind cX11_kind 1 (some .int)) (ws_ yX12_kind cX12_kind 1 (some .int)) (ws_ yX13_kind cX13_kind 1 (some .int)) (ws_ yX14_kind cX14_kind 1 (some .int))
abbrev vm_kind : Nat → Nat := sel6 1 1 1 1 1 1
theorem vo_kind : ∀ k, k ≤ 5 → vv_oc (vy_kind k) (vm_kind k) 0 (vw_kind k) ∧ vm_kind k ≤ 4 ∧ Cond.selects (bN k) yX9_kind (vy_kind k) ∈ lw_all ∧ Cond.instanceMethod (vy_kind k) ∈ lw_all := six ⟨ok_X9_kind, by decide, q267, q266⟩ ⟨ok_X10_kind, by decide, q287, q284⟩ ⟨ok_X11_kind, by decide, q288, q273⟩ ⟨ok_X12_kind, by decide, q280, q281⟩ ⟨ok_X13_kind, by decide, q269, q270⟩ ⟨ok_X14_kind, by decide, q276, q277⟩
theorem vc_kind {l : Launch} {Kf : State → Prop} {D : va_G} {K : Nat → ClassId} {fv : List Value × (Nat → Nat)} {A : Nat → Prop} (G : cG A fv cIm Kf D K) (n : mS) (δ : Nat → Nat) (ν : Nat → Option (Mg × Nat)) (s : Nat)  (hlv : cLv n s) (hkk : tn (n 11 s) ≤ 5) : ∀ k, k ≤ 5 → tn (n 11 s) = k → vv_Ct l (vy_kind k) (vw_kind k) (rm 2 60) Kf (cWd D K fv A) A [.ref (δ (200 + s))] (n, δ, ν) (vv_i (nI (tn (n 11 s))) (fun u => u = (n, δ, ν))) := by
  refine six ?_ ?_ ?_ ?_ ?_ ?_
  · intro e
    rw [e, show nI (0) = 0 from by decide]
    exact cd_X9_kind G n δ ν s  hlv hkk
  · intro e
    rw [e, show nI (1) = 0 + 1 from by decide]
    exact cd_X10_kind G n δ ν s  hlv hkk
  · intro e
    rw [e, show nI (2) = 0 + 2 from by decide]
    exact cd_X11_kind G n δ ν s  hlv hkk
  · intro e
    rw [e, show nI (3) = 0 + 1 + 2 from by decide]
    exact cd_X12_kind G n δ ν s  hlv hkk
  · intro e
    rw [e, show nI (4) = 0 + 2 + 2 from by decide]
    exact cd_X13_kind G n δ ν s  hlv hkk
  · intro e
    rw [e, show nI (5) = 0 + 5 from by decide]
    exact cd_X14_kind G n δ ν s  hlv hkk
theorem od_rots : vv_od yX9_rots 2 := ⟨by decide +kernel, by decide +kernel, q337, vv_decl q335 q356⟩
abbrev vy_rots : Nat → MethodName := sel6 yX9_rots yX10_rots yX11_rots yX10_rots yX13_rots yX14_rots
abbrev vw_rots : Nat → List Cond := sel6 (ws_ yX9_rots cX9_rots 3 (some .int)) (ws_ yX10_rots cX10_rots 3 (some .int)) (ws_ yX11_rots cX11_rots 3 (some .int)) (ws_ yX10_rots cX10_rots 3 (some .int)) (ws_ yX13_rots cX13_rots 3 (some .int)) (ws_ yX14_rots cX14_rots 3 (some .int))
abbrev vm_rots : Nat → Nat := sel6 3 3 3 3 3 3
theorem vo_rots : ∀ k, k ≤ 5 → vv_oc (vy_rots k) (vm_rots k) 2 (vw_rots k) ∧ vm_rots k ≤ 4 ∧ Cond.selects (bN k) yX9_rots (vy_rots k) ∈ lw_all ∧ Cond.instanceMethod (vy_rots k) ∈ lw_all := six ⟨ok_X9_rots, by decide, q336, q335⟩ ⟨ok_X10_rots, by decide, q354, q351⟩ ⟨ok_X11_rots, by decide, q355, q342⟩ ⟨ok_X10_rots, by decide, q350, q351⟩ ⟨ok_X13_rots, by decide, q338, q339⟩ ⟨ok_X14_rots, by decide, q345, q346⟩
theorem vc_rots {l : Launch} {Kf : State → Prop} {D : va_G} {K : Nat → ClassId} {fv : List Value × (Nat → Nat)} {A : Nat → Prop} (G : cG A fv cIm Kf D K) (n : mS) (δ : Nat → Nat) (ν : Nat → Option (Mg × Nat)) (s : Nat) (a : Int32) (so : Int32) (hlv : cLv n s) (hkk : tn (n 11 s) ≤ 5) : ∀ k, k ≤ 5 → tn (n 11 s) = k → vv_Ct l (vy_rots k) (vw_rots k) (rm 2 60) Kf (cWd D K fv A) A [.ref (δ (200 + s)), .int a, .int so] (n, δ, ν) (vv_i (rotU (nI (tn (n 11 s))) a so) (fun u => u = (n, δ, ν))) := by
  refine six ?_ ?_ ?_ ?_ ?_ ?_
  · intro e
    rw [e, show rotU (nI (0)) a so = a from by unfold rotU; simp [nI]; try grind]
    exact cd_X9_rots G n δ ν s a so hlv hkk
  · intro e
    rw [e, show rotU (nI (1)) a so = a + 10 from by unfold rotU; simp [nI]; try grind]
    exact cd_X10_rots G n δ ν s a so hlv hkk
  · intro e
    rw [e, show rotU (nI (2)) a so = a / 2 from by unfold rotU; simp [nI]; try grind]
    exact cd_X11_rots G n δ ν s a so hlv hkk
  · intro e
    rw [e, show rotU (nI (3)) a so = a + 10 from by unfold rotU; simp [nI]; try grind]
    exact cd_X10_rots G n δ ν s a so hlv hkk
  · intro e
    rw [e, show rotU (nI (4)) a so = a / 2 + so from by unfold rotU; simp [nI]; try grind]
    exact cd_X13_rots G n δ ν s a so hlv hkk
  · intro e
    rw [e, show rotU (nI (5)) a so = (if a ≤ 50 then 50 else a) from by unfold rotU; simp [nI]; try grind]
    exact cd_X14_rots G n δ ν s a so hlv hkk
theorem od_grows : vv_od yX9_grows 3 := ⟨by decide +kernel, by decide +kernel, q371, vv_decl q369 q390⟩
abbrev vy_grows : Nat → MethodName := sel6 yX9_grows yX10_grows yX11_grows yX12_grows yX13_grows yX14_grows
abbrev vw_grows : Nat → List Cond := sel6 (ws_ yX9_grows cX9_grows 4 (some .int)) (ws_ yX10_grows cX10_grows 4 (some .int)) (ws_ yX11_grows cX11_grows 4 (some .int)) (ws_ yX12_grows cX12_grows 4 (some .int)) (ws_ yX13_grows cX13_grows 4 (some .int)) (ws_ yX14_grows cX14_grows 4 (some .int))
abbrev vm_grows : Nat → Nat := sel6 4 4 4 4 4 4
theorem vo_grows : ∀ k, k ≤ 5 → vv_oc (vy_grows k) (vm_grows k) 3 (vw_grows k) ∧ vm_grows k ≤ 4 ∧ Cond.selects (bN k) yX9_grows (vy_grows k) ∈ lw_all ∧ Cond.instanceMethod (vy_grows k) ∈ lw_all := six ⟨ok_X9_grows, by decide, q370, q369⟩ ⟨ok_X10_grows, by decide, q388, q385⟩ ⟨ok_X11_grows, by decide, q389, q376⟩ ⟨ok_X12_grows, by decide, q381, q382⟩ ⟨ok_X13_grows, by decide, q372, q373⟩ ⟨ok_X14_grows, by decide, q378, q379⟩
theorem vc_grows {l : Launch} {Kf : State → Prop} {D : va_G} {K : Nat → ClassId} {fv : List Value × (Nat → Nat)} {A : Nat → Prop} (G : cG A fv cIm Kf D K) (n : mS) (δ : Nat → Nat) (ν : Nat → Option (Mg × Nat)) (s : Nat) (a : Int32) (so : Int32) (y : Int32) (hlv : cLv n s) (hkk : tn (n 11 s) ≤ 5) : ∀ k, k ≤ 5 → tn (n 11 s) = k → vv_Ct l (vy_grows k) (vw_grows k) (rm 2 60) Kf (cWd D K fv A) A [.ref (δ (200 + s)), .int a, .int so, .int y] (n, δ, ν) (vv_i (groU (nI (tn (n 11 s))) a so (n 12 (3 * s)) y) (fun u => u = (n, δ, ν))) := by
  refine six ?_ ?_ ?_ ?_ ?_ ?_
  · intro e
    rw [e, show groU (nI (0)) a so (n 12 (3 * s)) y = (if 3 < so then 2 * a else a) from by unfold groU; simp [nI]; try grind]
    exact cd_X9_grows G n δ ν s a so y hlv hkk
  · intro e
    rw [e, show groU (nI (1)) a so (n 12 (3 * s)) y = (if 3 < so then 2 * a else a) + (if 0 < a then n 12 (3 * s + 0) else 0) from by unfold groU; simp [nI]; try grind]
    exact cd_X10_grows G n δ ν s a so y hlv hkk
  · intro e
    rw [e, show groU (nI (2)) a so (n 12 (3 * s)) y = a + a / 2 from by unfold groU; simp [nI]; try grind]
    exact cd_X11_grows G n δ ν s a so y hlv hkk
  · intro e
    rw [e, show groU (nI (3)) a so (n 12 (3 * s)) y = (if 3 < so then 2 * a else a) + (if 0 < a then n 12 (3 * s + 0) else 0) + a from by unfold groU; simp [nI]; try grind]
    exact cd_X12_grows G n δ ν s a so y hlv hkk
  · intro e
    rw [e, show groU (nI (4)) a so (n 12 (3 * s)) y = (if y - y / 2 * 2 = 1 then a else a + a / 2) from by unfold groU; simp [nI]; try grind]
    exact cd_X13_grows G n δ ν s a so y hlv hkk
  · intro e
    rw [e, show groU (nI (5)) a so (n 12 (3 * s)) y = a from by unfold groU; simp [nI]; try grind]
    exact cd_X14_grows G n δ ν s a so y hlv hkk
theorem od_flowers : vv_od yX9_flowers 1 := ⟨by decide +kernel, by decide +kernel, q404, vv_decl q402 q421⟩
abbrev vy_flowers : Nat → MethodName := sel6 yX9_flowers yX10_flowers yX11_flowers yX12_flowers yX13_flowers yX9_flowers
abbrev vw_flowers : Nat → List Cond := sel6 (ws_ yX9_flowers cX9_flowers 2 (some .int)) (ws_ yX10_flowers cX10_flowers 2 (some .int)) (ws_ yX11_flowers cX11_flowers 2 (some .int)) (ws_ yX12_flowers cX12_flowers 2 (some .int)) (ws_ yX13_flowers cX13_flowers 2 (some .int)) (ws_ yX9_flowers cX9_flowers 2 (some .int))
abbrev vm_flowers : Nat → Nat := sel6 2 2 2 2 2 2
theorem vo_flowers : ∀ k, k ≤ 5 → vv_oc (vy_flowers k) (vm_flowers k) 1 (vw_flowers k) ∧ vm_flowers k ≤ 4 ∧ Cond.selects (bN k) yX9_flowers (vy_flowers k) ∈ lw_all ∧ Cond.instanceMethod (vy_flowers k) ∈ lw_all := six ⟨ok_X9_flowers, by decide, q403, q402⟩ ⟨ok_X10_flowers, by decide, q416, q413⟩ ⟨ok_X11_flowers, by decide, q417, q418⟩ ⟨ok_X12_flowers, by decide, q409, q410⟩ ⟨ok_X13_flowers, by decide, q405, q406⟩ ⟨ok_X9_flowers, by decide, q408, q402⟩
theorem vc_flowers {l : Launch} {Kf : State → Prop} {D : va_G} {K : Nat → ClassId} {fv : List Value × (Nat → Nat)} {A : Nat → Prop} (G : cG A fv cIm Kf D K) (n : mS) (δ : Nat → Nat) (ν : Nat → Option (Mg × Nat)) (s : Nat) (a : Int32) (hlv : cLv n s) (hkk : tn (n 11 s) ≤ 5) : ∀ k, k ≤ 5 → tn (n 11 s) = k → vv_Ct l (vy_flowers k) (vw_flowers k) (rm 2 60) Kf (cWd D K fv A) A [.ref (δ (200 + s)), .int a] (n, δ, ν) (vv_i (floU (nI (tn (n 11 s))) a (n 12 (3 * s))) (fun u => u = (n, δ, ν))) := by
  refine six ?_ ?_ ?_ ?_ ?_ ?_
  · intro e
    rw [e, show floU (nI (0)) a (n 12 (3 * s)) = a from by unfold floU; simp [nI]; try grind]
    exact cd_X9_flowers G n δ ν s a hlv hkk
  · intro e
    rw [e, show floU (nI (1)) a (n 12 (3 * s)) = 2 * a from by unfold floU; simp [nI]; try grind]
    exact cd_X10_flowers G n δ ν s a hlv hkk
  · intro e
    rw [e, show floU (nI (2)) a (n 12 (3 * s)) = a / 3 from by unfold floU; simp [nI]; try grind]
    exact cd_X11_flowers G n δ ν s a hlv hkk
  · intro e
    rw [e, show floU (nI (3)) a (n 12 (3 * s)) = 2 * a + (if 0 < a then n 12 (3 * s + 0) else 0) from by unfold floU; simp [nI]; try grind]
    exact cd_X12_flowers G n δ ν s a hlv hkk
  · intro e
    rw [e, show floU (nI (4)) a (n 12 (3 * s)) = 0 from by unfold floU; simp [nI]; try grind]
    exact cd_X13_flowers G n δ ν s a hlv hkk
  · intro e
    rw [e, show floU (nI (5)) a (n 12 (3 * s)) = a from by unfold floU; simp [nI]; try grind]
    exact cd_X9_flowers G n δ ν s a hlv hkk
theorem ok_X9_heldRots : vv_oc yX9_heldRots 3 2 (ws_ yX9_heldRots cX9_heldRots 3 (some .int)) := vv_ok.oc (rt := (some .int)) ⟨q333, q134, by decide +kernel, by decide +kernel⟩
set_option maxHeartbeats 4000000 in
theorem cc_X9_heldRots {l : Launch} {Kf : State → Prop} {D : va_G} {K : Nat → ClassId} {fv : List Value × (Nat → Nat)} {A : Nat → Prop} (G : cG A fv cIm Kf D K)  (n : mS) (δ : Nat → Nat) (ν : Nat → Option (Mg × Nat)) (s : Nat) (a : Int32) (so : Int32) (hlv : cLv n s) (hkk : tn (n 11 s) ≤ 5) (hke : n 11 s = nI (tn (n 11 s))) : vv_Ct l yX9_heldRots (ws_ yX9_heldRots cX9_heldRots 3 (some .int)) (rm 4 120) Kf (cWd D K fv A) A [.ref (δ (200 + s)), .int a, .int so] (n, δ, ν) (vv_i (rotF (n 11 s) a so) (fun u => u = (n, δ, ν))) := by
  refine vv_of (by decide +kernel) (Nat.le_of_ble_eq_true rfl) ?_
  intro v (F : vv_F v l cX9_heldRots 3 RX9 "heldRots" (some .int) [] (rm 4 120) Kf (cWd D K fv A) A _)
  show v (n, δ, ν) 0 0 0 [(0, .ref (δ (200 + s))), (1, .int a), (2, .int so)] []
  refine v_aload_n F 0 dX9_heldRots_0 rfl rfl rfl ?_
  refine v_iload_n F 1 dX9_heldRots_1 rfl rfl rfl ?_
  refine v_iload_n F 2 dX9_heldRots_2 rfl rfl rfl ?_
  refine c_vcalli F G (As := [.int a, .int so]) (hlv) (hkk) q334 od_rots vo_rots (vc_rots G n δ ν s a so (hlv) (hkk)) rfl rfl dX9_heldRots_3 rfl rfl ?_
  intro u0 hu0; subst u0
  refine v_iconst (x := 0) F dX9_heldRots_6 rfl (by decide) ?_
  refine v_bipush (x := 100) F dX9_heldRots_7 rfl (by decide) ?_
  refine s_calliN F G.N G.1 (cg_X0_held G.1 (n, δ, ν) (rotU (nI (tn (n 11 s))) a so) 0 100 (by decide)) ok_X0_held q357 q316 rfl rfl dX9_heldRots_9 rfl rfl ?_
  intro u0 hu0; subst u0
  exact v_reti F dX9_heldRots_12 rfl (by rw [hke, tn_nI (by omega), rotF_U]) (rfl)
theorem od_heldRots : vv_od yX9_heldRots 2 := ⟨by decide +kernel, by decide +kernel, q327, vv_decl q325 q333⟩
theorem vo_heldRots : ∀ k, k ≤ 5 → vv_oc ((fun _ => yX9_heldRots) k) ((fun _ => 3) k) 2 ((fun _ => ws_ yX9_heldRots cX9_heldRots 3 (some .int)) k) ∧ ((fun _ => 3) k) ≤ 4 ∧ Cond.selects (bN k) yX9_heldRots ((fun _ => yX9_heldRots) k) ∈ lw_all ∧ Cond.instanceMethod ((fun _ => yX9_heldRots) k) ∈ lw_all := six ⟨ok_X9_heldRots, by decide, q326, q325⟩ ⟨ok_X9_heldRots, by decide, q331, q325⟩ ⟨ok_X9_heldRots, by decide, q332, q325⟩ ⟨ok_X9_heldRots, by decide, q330, q325⟩ ⟨ok_X9_heldRots, by decide, q328, q325⟩ ⟨ok_X9_heldRots, by decide, q329, q325⟩
theorem ok_X9_heldGrows : vv_oc yX9_heldGrows 4 3 (ws_ yX9_heldGrows cX9_heldGrows 4 (some .int)) := vv_ok.oc (rt := (some .int)) ⟨q367, q134, by decide +kernel, by decide +kernel⟩
set_option maxHeartbeats 4000000 in
theorem cc_X9_heldGrows {l : Launch} {Kf : State → Prop} {D : va_G} {K : Nat → ClassId} {fv : List Value × (Nat → Nat)} {A : Nat → Prop} (G : cG A fv cIm Kf D K)  (n : mS) (δ : Nat → Nat) (ν : Nat → Option (Mg × Nat)) (s : Nat) (a : Int32) (so : Int32) (y : Int32) (hlv : cLv n s) (hkk : tn (n 11 s) ≤ 5) (hke : n 11 s = nI (tn (n 11 s))) : vv_Ct l yX9_heldGrows (ws_ yX9_heldGrows cX9_heldGrows 4 (some .int)) (rm 4 120) Kf (cWd D K fv A) A [.ref (δ (200 + s)), .int a, .int so, .int y] (n, δ, ν) (vv_i (groF (n 11 s) a so (n 12 (3 * s)) y) (fun u => u = (n, δ, ν))) := by
  refine vv_of (by decide +kernel) (Nat.le_of_ble_eq_true rfl) ?_
  intro v (F : vv_F v l cX9_heldGrows 4 RX9 "heldGrows" (some .int) [] (rm 4 120) Kf (cWd D K fv A) A _)
  show v (n, δ, ν) 0 0 0 [(0, .ref (δ (200 + s))), (1, .int a), (2, .int so), (3, .int y)] []
  refine v_aload_n F 0 dX9_heldGrows_0 rfl rfl rfl ?_
  refine v_iload_n F 1 dX9_heldGrows_1 rfl rfl rfl ?_
  refine v_iload_n F 2 dX9_heldGrows_2 rfl rfl rfl ?_
  refine v_iload_n F 3 dX9_heldGrows_3 rfl rfl rfl ?_
  refine c_vcalli F G (As := [.int a, .int so, .int y]) (hlv) (hkk) q368 od_grows vo_grows (vc_grows G n δ ν s a so y (hlv) (hkk)) rfl rfl dX9_heldGrows_4 rfl rfl ?_
  intro u0 hu0; subst u0
  refine v_iconst (x := 0) F dX9_heldGrows_7 rfl (by decide) ?_
  refine v_sipush (x := 9999) F dX9_heldGrows_8 rfl (by decide) ?_
  refine s_calliN F G.N G.1 (cg_X0_held G.1 (n, δ, ν) (groU (nI (tn (n 11 s))) a so (n 12 (3 * s)) y) 0 9999 (by decide)) ok_X0_held q357 q316 rfl rfl dX9_heldGrows_11 rfl rfl ?_
  intro u0 hu0; subst u0
  exact v_reti F dX9_heldGrows_14 rfl (by rw [hke, tn_nI (by omega), groF_U]) (rfl)
theorem od_heldGrows : vv_od yX9_heldGrows 3 := ⟨by decide +kernel, by decide +kernel, q361, vv_decl q359 q367⟩
theorem vo_heldGrows : ∀ k, k ≤ 5 → vv_oc ((fun _ => yX9_heldGrows) k) ((fun _ => 4) k) 3 ((fun _ => ws_ yX9_heldGrows cX9_heldGrows 4 (some .int)) k) ∧ ((fun _ => 4) k) ≤ 4 ∧ Cond.selects (bN k) yX9_heldGrows ((fun _ => yX9_heldGrows) k) ∈ lw_all ∧ Cond.instanceMethod ((fun _ => yX9_heldGrows) k) ∈ lw_all := six ⟨ok_X9_heldGrows, by decide, q360, q359⟩ ⟨ok_X9_heldGrows, by decide, q365, q359⟩ ⟨ok_X9_heldGrows, by decide, q366, q359⟩ ⟨ok_X9_heldGrows, by decide, q364, q359⟩ ⟨ok_X9_heldGrows, by decide, q362, q359⟩ ⟨ok_X9_heldGrows, by decide, q363, q359⟩
theorem ok_X9_heldFlowers : vv_oc yX9_heldFlowers 1 0 (ws_ yX9_heldFlowers cX9_heldFlowers 1 (some .int)) := vv_ok.oc (rt := (some .int)) ⟨q400, q134, by decide +kernel, by decide +kernel⟩
set_option maxHeartbeats 4000000 in
theorem cc_X9_heldFlowers {l : Launch} {Kf : State → Prop} {D : va_G} {K : Nat → ClassId} {fv : List Value × (Nat → Nat)} {A : Nat → Prop} (G : cG A fv cIm Kf D K)  (n : mS) (δ : Nat → Nat) (ν : Nat → Option (Mg × Nat)) (s : Nat)  (hlv : cLv n s) (hkk : tn (n 11 s) ≤ 5) (hke : n 11 s = nI (tn (n 11 s))) (h0 : 0 ≤ n 12 (3 * s + 2)) : vv_Ct l yX9_heldFlowers (ws_ yX9_heldFlowers cX9_heldFlowers 1 (some .int)) (rm 4 120) Kf (cWd D K fv A) A [.ref (δ (200 + s))] (n, δ, ν) (vv_i (floF (n 11 s) (n 12 (3 * s + 2)) (n 12 (3 * s))) (fun u => u = (n, δ, ν))) := by
  refine vv_of (by decide +kernel) (Nat.le_of_ble_eq_true rfl) ?_
  intro v (F : vv_F v l cX9_heldFlowers 1 RX9 "heldFlowers" (some .int) [] (rm 4 120) Kf (cWd D K fv A) A _)
  show v (n, δ, ν) 0 0 0 [(0, .ref (δ (200 + s)))] []
  refine v_aload_n F 0 dX9_heldFlowers_0 rfl rfl rfl ?_
  refine v_aload_n F 0 dX9_heldFlowers_1 rfl rfl rfl ?_
  refine c_bget F G s 2 (hlv) (hkk) (by decide) q183 (refO_9 2) dX9_heldFlowers_2 rfl ?_
  refine c_vcalli F G (As := [.int (n 12 (3 * s + 2))]) (hlv) (hkk) q401 od_flowers vo_flowers (vc_flowers G n δ ν s (n 12 (3 * s + 2)) (hlv) (hkk)) rfl rfl dX9_heldFlowers_5 rfl rfl ?_
  intro u0 hu0; subst u0
  refine v_iconst (x := 0) F dX9_heldFlowers_8 rfl (by decide) ?_
  refine v_ldc F q422 dX9_heldFlowers_9 rfl ?_
  refine s_calliN F G.N G.1 (cg_X0_held G.1 (n, δ, ν) (floU (nI (tn (n 11 s))) (n 12 (3 * s + 2)) (n 12 (3 * s))) 0 99999 (by decide)) ok_X0_held q357 q316 rfl rfl dX9_heldFlowers_11 rfl rfl ?_
  intro u0 hu0; subst u0
  exact v_reti F dX9_heldFlowers_14 rfl (by rw [hke, tn_nI (by omega), floF_U h0]) (rfl)
theorem od_heldFlowers : vv_od yX9_heldFlowers 0 := ⟨by decide +kernel, by decide +kernel, q394, vv_decl q392 q400⟩
theorem vo_heldFlowers : ∀ k, k ≤ 5 → vv_oc ((fun _ => yX9_heldFlowers) k) ((fun _ => 1) k) 0 ((fun _ => ws_ yX9_heldFlowers cX9_heldFlowers 1 (some .int)) k) ∧ ((fun _ => 1) k) ≤ 4 ∧ Cond.selects (bN k) yX9_heldFlowers ((fun _ => yX9_heldFlowers) k) ∈ lw_all ∧ Cond.instanceMethod ((fun _ => yX9_heldFlowers) k) ∈ lw_all := six ⟨ok_X9_heldFlowers, by decide, q393, q392⟩ ⟨ok_X9_heldFlowers, by decide, q398, q392⟩ ⟨ok_X9_heldFlowers, by decide, q399, q392⟩ ⟨ok_X9_heldFlowers, by decide, q397, q392⟩ ⟨ok_X9_heldFlowers, by decide, q395, q392⟩ ⟨ok_X9_heldFlowers, by decide, q396, q392⟩
