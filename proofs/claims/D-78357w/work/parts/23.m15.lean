/-! THE REFERENCE, part 15: areas seen -/
set_option maxRecDepth 100000
def seenAreaR (w : Nat → Int32) (v : Int32) : Int32 := if isBx w v = true then (LAc w).1 v.toNatClampNeg else -101
def faceAreaR (w : Nat → Int32) (v : Int32) : Int32 := if inR v 0 2 = true then (LAc w).2.2 v.toNatClampNeg else -102
def pictR (w : Nat → Int32) : Int32 := (LAc w).2.2 0 + (LAc w).2.2 1 + (LAc w).2.2 2
def hidR (w : Nat → Int32) : Int32 := sm (fun k => bI (isBx w (nI k) && decide ((LAc w).1 k = 0))) 12
def gcN (w : Nat → Int32) : Nat → Nat
  | 0 => 12
  | k + 1 => if isBx w (nI k) = true then (if gcN w k = 12 ∨ (LAc w).2.1 (gcN w k) < (LAc w).2.1 k then k else gcN w k) else gcN w k
theorem gc_le (w : Nat → Int32) : ∀ k, gcN w k = 12 ∨ gcN w k < k
  | 0 => Or.inl rfl
  | k + 1 => by
    have := gc_le w k
    rw [gcN]
    split
    · split
      · exact Or.inr (Nat.lt_succ_self k)
      · exact this.imp id (fun h => Nat.lt_succ_of_lt h)
    · exact this.imp id (fun h => Nat.lt_succ_of_lt h)
def gcovR (w : Nat → Int32) (v : Int32) : Int32 := if inR v 0 1 = true then (if gcN w 12 = 12 ∨ v = 0 then oM (gcN w 12) else (LAc w).2.1 (gcN w 12)) else -102
def rX1_seenArea : Room := { frames := 5, cells := 0, slots := 0, locals := 105 }
theorem k_X1_seenArea : CV yX1_seenArea cX1_seenArea 2 (some .int) 1 := ⟨q1956, q1957, q81, q1958, by decide +kernel, by decide +kernel, by decide +kernel⟩
set_option maxHeartbeats 400000 in
theorem c_X1_seenArea (l : Launch) (D : DD) (b : Nat) {h : Nat} {ad : Nat → Nat} {σ0 : Hp} {F : Nat → Int32} {A : Nat → Nat → Int32} {σ : Hp} (hM : MW D h ad σ0 F A σ) (v : Int32) : CM l yX1_seenArea cX1_seenArea 2 (some .int) rX1_seenArea D b [.ref h, .int v] σ (PI (fun r σ' => r = seenAreaR (A 0) v ∧ ∃ F' A', sameF [17, 18, 19, 20] F F' ∧ sameA [21, 22, 23] A A' ∧ MW D h ad σ0 F' A' σ')) := by
  refine CM_of [some (.ref h), some (.int v)] RX1 (by decide) rfl (cat_all rfl) (Nat.le_of_ble_eq_true rfl) rfl ?_
  intro z hz hR hnm
  refine g_aload_n rfl ld_0 1 rfl dX1_seenArea_0 ?_
  refine g_iload_n rfl ld_1 2 rfl dX1_seenArea_1 ?_
  refine g_callV (As := [.int v]) (rest := []) (ci := 1) (v_X1_isBox z.l D b hM (w0 := A 0) rfl v) k_X1_isBox q1759 hM.1 rfl rfl rfl rfl (Nat.le_of_ble_eq_true rfl) ⟨Nat.le_of_ble_eq_true rfl, Nat.le_of_ble_eq_true rfl⟩ 0 0 (Nat.le_of_ble_eq_true rfl) (Nat.le_of_ble_eq_true rfl) (Nat.le_of_ble_eq_true rfl) (Nat.le_of_ble_eq_true rfl) 5 rfl dX1_seenArea_2 (fun v σ1 hq => ?_)
  obtain ⟨rfl, rfl⟩ := hq
  refine g_if_neB 11 8 rfl (by decide) dX1_seenArea_5 (fun c5 => ?_) (fun c5 => ?_)
  · obtain ⟨j, hj, rfl, hwj⟩ := isBx_in c5
    have hclj := nI_clamp (show j < 2 ^ 31 by omega)
    refine g_aload_n rfl ld_0 12 rfl dX1_seenArea_11 ?_
    refine g_callV (As := []) (rest := []) (ci := 1) (v_X1_lookAll z.l D b hM (w0 := A 0) rfl ) k_X1_lookAll q1959 hM.1 rfl rfl rfl rfl (Nat.le_of_ble_eq_true rfl) ⟨Nat.le_of_ble_eq_true rfl, Nat.le_of_ble_eq_true rfl⟩ 0 0 (Nat.le_of_ble_eq_true rfl) (Nat.le_of_ble_eq_true rfl) (Nat.le_of_ble_eq_true rfl) (Nat.le_of_ble_eq_true rfl) 15 rfl dX1_seenArea_12 (fun v σ1 hq => ?_)
    obtain ⟨rfl, f17, f18, f19, f20, ⟨sa, cv, fc⟩, ⟨h21, h22, h23⟩, hM⟩ := hq
    revert σ1
    intro σ hM
    dsimp only at h21 h22 h23
    have hM : MW D h ad σ0 (upd (upd (upd (upd F 17 f17) 18 f18) 19 f19) 20 f20) (uA (uA (uA A 21 sa) 22 cv) 23 fc) σ := hM
    refine g_aload_n rfl ld_0 16 rfl dX1_seenArea_15 ?_
    refine g_getf (kf := 21) (v := .ref (ad 21)) hM.1 rfl rfl in_X1 (by decide) q1682 rfl 19 rfl dX1_seenArea_16 ?_
    refine g_iload_n rfl ld_1 20 rfl dX1_seenArea_19 ?_
    refine g_iald (j := j) (f := sa) hM.a21 rfl (by omega) (by decide) 21 rfl dX1_seenArea_20 ?_
    exact g_iret hR rfl (Nat.le_of_ble_eq_true rfl) (Nat.le_of_ble_eq_true rfl) ⟨_, rfl, by rw [seenAreaR, if_pos c5, hclj]; exact h21 j (by omega), _, _, (sF_upd (sF_upd (sF_upd (sF_upd (sF_refl _ _) (by decide) _) (by decide) _) (by decide) _) (by decide) _), (sA_upd (sA_upd (sA_upd (sA_refl _ _) (by decide) _) (by decide) _) (by decide) _), hM⟩ dX1_seenArea_21
  · refine g_bipush (v := -101) (by decide) 10 rfl dX1_seenArea_8 ?_
    exact g_iret hR rfl (Nat.le_of_ble_eq_true rfl) (Nat.le_of_ble_eq_true rfl) ⟨_, rfl, by rw [seenAreaR, if_neg (by simp [c5])], _, _, (sF_refl _ _), (sA_refl _ _), hM⟩ dX1_seenArea_10
theorem v_X1_seenArea (l : Launch) (D : DD) (b : Nat) {h : Nat} {ad : Nat → Nat} {σ0 : Hp} {F : Nat → Int32} {A : Nat → Nat → Int32} {σ : Hp} (hM : MW D h ad σ0 F A σ) {w0 : Nat → Int32} (hw0 : A 0 = w0) (v : Int32) : CM l yX1_seenArea cX1_seenArea 2 (some .int) rX1_seenArea D b [.ref h, .int v] σ (PI (fun r σ' => r = seenAreaR (w0) v ∧ ∃ F' A', sameF [17, 18, 19, 20] F F' ∧ sameA [21, 22, 23] A A' ∧ MW D h ad σ0 F' A' σ')) := by
  subst hw0
  exact c_X1_seenArea l D b hM v
def rX1_faceArea : Room := { frames := 5, cells := 0, slots := 0, locals := 105 }
theorem k_X1_faceArea : CV yX1_faceArea cX1_faceArea 2 (some .int) 1 := ⟨q1964, q1965, q81, q1966, by decide +kernel, by decide +kernel, by decide +kernel⟩
set_option maxHeartbeats 400000 in
theorem c_X1_faceArea (l : Launch) (D : DD) (b : Nat) {h : Nat} {ad : Nat → Nat} {σ0 : Hp} {F : Nat → Int32} {A : Nat → Nat → Int32} {σ : Hp} (hM : MW D h ad σ0 F A σ) (v : Int32) : CM l yX1_faceArea cX1_faceArea 2 (some .int) rX1_faceArea D b [.ref h, .int v] σ (PI (fun r σ' => r = faceAreaR (A 0) v ∧ ∃ F' A', sameF [17, 18, 19, 20] F F' ∧ sameA [21, 22, 23] A A' ∧ MW D h ad σ0 F' A' σ')) := by
  refine CM_of [some (.ref h), some (.int v)] RX1 (by decide) rfl (cat_all rfl) (Nat.le_of_ble_eq_true rfl) rfl ?_
  intro z hz hR hnm
  refine g_iload_n rfl ld_1 1 rfl dX1_faceArea_0 ?_
  refine g_iconst (v := 0) (by decide) 2 rfl dX1_faceArea_1 ?_
  refine g_iconst (v := 2) (by decide) 3 rfl dX1_faceArea_2 ?_
  refine g_callS (As := [.int v, .int ((0 : Int32)), .int ((2 : Int32))]) (rest := []) (c_X1_isIn z.l D b (σ := σ) v ((0 : Int32)) ((2 : Int32))) k_X1_isIn q1763 rfl rfl (Nat.le_of_ble_eq_true rfl) ⟨Nat.le_of_ble_eq_true rfl, Nat.le_of_ble_eq_true rfl⟩ 0 0 (Nat.le_of_ble_eq_true rfl) (Nat.le_of_ble_eq_true rfl) (Nat.le_of_ble_eq_true rfl) (Nat.le_of_ble_eq_true rfl) 6 rfl dX1_faceArea_3 (fun v σ1 hq => ?_)
  obtain ⟨rfl, rfl⟩ := hq
  refine g_if_neB 12 9 rfl (by decide) dX1_faceArea_6 (fun c6 => ?_) (fun c6 => ?_)
  · obtain ⟨j, hj, rfl⟩ := inR_nat (N := 2) c6 (by decide)
    have hclj := nI_clamp (show j < 2 ^ 31 by omega)
    refine g_aload_n rfl ld_0 13 rfl dX1_faceArea_12 ?_
    refine g_callV (As := []) (rest := []) (ci := 1) (v_X1_lookAll z.l D b hM (w0 := A 0) rfl ) k_X1_lookAll q1959 hM.1 rfl rfl rfl rfl (Nat.le_of_ble_eq_true rfl) ⟨Nat.le_of_ble_eq_true rfl, Nat.le_of_ble_eq_true rfl⟩ 0 0 (Nat.le_of_ble_eq_true rfl) (Nat.le_of_ble_eq_true rfl) (Nat.le_of_ble_eq_true rfl) (Nat.le_of_ble_eq_true rfl) 16 rfl dX1_faceArea_13 (fun v σ1 hq => ?_)
    obtain ⟨rfl, f17, f18, f19, f20, ⟨sa, cv, fc⟩, ⟨h21, h22, h23⟩, hM⟩ := hq
    revert σ1
    intro σ hM
    dsimp only at h21 h22 h23
    have hM : MW D h ad σ0 (upd (upd (upd (upd F 17 f17) 18 f18) 19 f19) 20 f20) (uA (uA (uA A 21 sa) 22 cv) 23 fc) σ := hM
    refine g_aload_n rfl ld_0 17 rfl dX1_faceArea_16 ?_
    refine g_getf (kf := 23) (v := .ref (ad 23)) hM.1 rfl rfl in_X1 (by decide) q1684 rfl 20 rfl dX1_faceArea_17 ?_
    refine g_iload_n rfl ld_1 21 rfl dX1_faceArea_20 ?_
    refine g_iald (j := j) (f := fc) hM.a23 rfl (by omega) (by decide) 22 rfl dX1_faceArea_21 ?_
    exact g_iret hR rfl (Nat.le_of_ble_eq_true rfl) (Nat.le_of_ble_eq_true rfl) ⟨_, rfl, by rw [faceAreaR, if_pos c6, hclj]; exact h23 j (by omega), _, _, (sF_upd (sF_upd (sF_upd (sF_upd (sF_refl _ _) (by decide) _) (by decide) _) (by decide) _) (by decide) _), (sA_upd (sA_upd (sA_upd (sA_refl _ _) (by decide) _) (by decide) _) (by decide) _), hM⟩ dX1_faceArea_22
  · refine g_bipush (v := -102) (by decide) 11 rfl dX1_faceArea_9 ?_
    exact g_iret hR rfl (Nat.le_of_ble_eq_true rfl) (Nat.le_of_ble_eq_true rfl) ⟨_, rfl, by rw [faceAreaR, if_neg (by simp [c6])], _, _, (sF_refl _ _), (sA_refl _ _), hM⟩ dX1_faceArea_11
theorem v_X1_faceArea (l : Launch) (D : DD) (b : Nat) {h : Nat} {ad : Nat → Nat} {σ0 : Hp} {F : Nat → Int32} {A : Nat → Nat → Int32} {σ : Hp} (hM : MW D h ad σ0 F A σ) {w0 : Nat → Int32} (hw0 : A 0 = w0) (v : Int32) : CM l yX1_faceArea cX1_faceArea 2 (some .int) rX1_faceArea D b [.ref h, .int v] σ (PI (fun r σ' => r = faceAreaR (w0) v ∧ ∃ F' A', sameF [17, 18, 19, 20] F F' ∧ sameA [21, 22, 23] A A' ∧ MW D h ad σ0 F' A' σ')) := by
  subst hw0
  exact c_X1_faceArea l D b hM v
def rX1_pictureArea : Room := { frames := 5, cells := 0, slots := 0, locals := 105 }
theorem k_X1_pictureArea : CV yX1_pictureArea cX1_pictureArea 1 (some .int) 0 := ⟨q1968, q1969, q81, q1970, by decide +kernel, by decide +kernel, by decide +kernel⟩
set_option maxHeartbeats 400000 in
theorem c_X1_pictureArea (l : Launch) (D : DD) (b : Nat) {h : Nat} {ad : Nat → Nat} {σ0 : Hp} {F : Nat → Int32} {A : Nat → Nat → Int32} {σ : Hp} (hM : MW D h ad σ0 F A σ) : CM l yX1_pictureArea cX1_pictureArea 1 (some .int) rX1_pictureArea D b [.ref h] σ (PI (fun r σ' => r = pictR (A 0) ∧ ∃ F' A', sameF [17, 18, 19, 20] F F' ∧ sameA [21, 22, 23] A A' ∧ MW D h ad σ0 F' A' σ')) := by
  refine CM_of [some (.ref h)] RX1 (by decide) rfl (cat_all rfl) (Nat.le_of_ble_eq_true rfl) rfl ?_
  intro z hz hR hnm
  refine g_aload_n rfl ld_0 1 rfl dX1_pictureArea_0 ?_
  refine g_callV (As := []) (rest := []) (ci := 1) (v_X1_lookAll z.l D b hM (w0 := A 0) rfl ) k_X1_lookAll q1959 hM.1 rfl rfl rfl rfl (Nat.le_of_ble_eq_true rfl) ⟨Nat.le_of_ble_eq_true rfl, Nat.le_of_ble_eq_true rfl⟩ 0 0 (Nat.le_of_ble_eq_true rfl) (Nat.le_of_ble_eq_true rfl) (Nat.le_of_ble_eq_true rfl) (Nat.le_of_ble_eq_true rfl) 4 rfl dX1_pictureArea_1 (fun v σ1 hq => ?_)
  obtain ⟨rfl, f17, f18, f19, f20, ⟨sa, cv, fc⟩, ⟨h21, h22, h23⟩, hM⟩ := hq
  revert σ1
  intro σ hM
  dsimp only at h21 h22 h23
  have hM : MW D h ad σ0 (upd (upd (upd (upd F 17 f17) 18 f18) 19 f19) 20 f20) (uA (uA (uA A 21 sa) 22 cv) 23 fc) σ := hM
  refine g_aload_n rfl ld_0 5 rfl dX1_pictureArea_4 ?_
  refine g_getf (kf := 23) (v := .ref (ad 23)) hM.1 rfl rfl in_X1 (by decide) q1684 rfl 8 rfl dX1_pictureArea_5 ?_
  refine g_iconst (v := 0) (by decide) 9 rfl dX1_pictureArea_8 ?_
  refine g_iald (j := 0) (f := fc) hM.a23 (show (0 : Int32) = nI 0 from rfl) (by omega) (by decide) 10 rfl dX1_pictureArea_9 ?_
  refine g_aload_n rfl ld_0 11 rfl dX1_pictureArea_10 ?_
  refine g_getf (kf := 23) (v := .ref (ad 23)) hM.1 rfl rfl in_X1 (by decide) q1684 rfl 14 rfl dX1_pictureArea_11 ?_
  refine g_iconst (v := 1) (by decide) 15 rfl dX1_pictureArea_14 ?_
  refine g_iald (j := 1) (f := fc) hM.a23 (show (1 : Int32) = nI 1 from rfl) (by omega) (by decide) 16 rfl dX1_pictureArea_15 ?_
  refine g_iadd 17 rfl dX1_pictureArea_16 ?_
  refine g_aload_n rfl ld_0 18 rfl dX1_pictureArea_17 ?_
  refine g_getf (kf := 23) (v := .ref (ad 23)) hM.1 rfl rfl in_X1 (by decide) q1684 rfl 21 rfl dX1_pictureArea_18 ?_
  refine g_iconst (v := 2) (by decide) 22 rfl dX1_pictureArea_21 ?_
  refine g_iald (j := 2) (f := fc) hM.a23 (show (2 : Int32) = nI 2 from rfl) (by omega) (by decide) 23 rfl dX1_pictureArea_22 ?_
  refine g_iadd 24 rfl dX1_pictureArea_23 ?_
  exact g_iret hR rfl (Nat.le_of_ble_eq_true rfl) (Nat.le_of_ble_eq_true rfl) ⟨_, rfl, by rw [pictR, ← h23 0 (by decide), ← h23 1 (by decide), ← h23 2 (by decide)], _, _, (sF_upd (sF_upd (sF_upd (sF_upd (sF_refl _ _) (by decide) _) (by decide) _) (by decide) _) (by decide) _), (sA_upd (sA_upd (sA_upd (sA_refl _ _) (by decide) _) (by decide) _) (by decide) _), hM⟩ dX1_pictureArea_24
theorem v_X1_pictureArea (l : Launch) (D : DD) (b : Nat) {h : Nat} {ad : Nat → Nat} {σ0 : Hp} {F : Nat → Int32} {A : Nat → Nat → Int32} {σ : Hp} (hM : MW D h ad σ0 F A σ) {w0 : Nat → Int32} (hw0 : A 0 = w0) : CM l yX1_pictureArea cX1_pictureArea 1 (some .int) rX1_pictureArea D b [.ref h] σ (PI (fun r σ' => r = pictR (w0) ∧ ∃ F' A', sameF [17, 18, 19, 20] F F' ∧ sameA [21, 22, 23] A A' ∧ MW D h ad σ0 F' A' σ')) := by
  subst hw0
  exact c_X1_pictureArea l D b hM 
def rX1_hiddenBoxes : Room := { frames := 5, cells := 0, slots := 0, locals := 105 }
theorem k_X1_hiddenBoxes : CV yX1_hiddenBoxes cX1_hiddenBoxes 3 (some .int) 0 := ⟨q1972, q1973, q81, q1974, by decide +kernel, by decide +kernel, by decide +kernel⟩
set_option maxHeartbeats 400000 in
theorem c_X1_hiddenBoxes (l : Launch) (D : DD) (b : Nat) {h : Nat} {ad : Nat → Nat} {σ0 : Hp} {F : Nat → Int32} {A : Nat → Nat → Int32} {σ : Hp} (hM : MW D h ad σ0 F A σ) : CM l yX1_hiddenBoxes cX1_hiddenBoxes 3 (some .int) rX1_hiddenBoxes D b [.ref h] σ (PI (fun r σ' => r = hidR (A 0) ∧ ∃ F' A', sameF [17, 18, 19, 20] F F' ∧ sameA [21, 22, 23] A A' ∧ MW D h ad σ0 F' A' σ')) := by
  refine CM_of [some (.ref h), none, none] RX1 (by decide) rfl (cat_all rfl) (Nat.le_of_ble_eq_true rfl) rfl ?_
  intro z hz hR hnm
  refine g_aload_n rfl ld_0 1 rfl dX1_hiddenBoxes_0 ?_
  refine g_callV (As := []) (rest := []) (ci := 1) (v_X1_lookAll z.l D b hM (w0 := A 0) rfl ) k_X1_lookAll q1959 hM.1 rfl rfl rfl rfl (Nat.le_of_ble_eq_true rfl) ⟨Nat.le_of_ble_eq_true rfl, Nat.le_of_ble_eq_true rfl⟩ 0 0 (Nat.le_of_ble_eq_true rfl) (Nat.le_of_ble_eq_true rfl) (Nat.le_of_ble_eq_true rfl) (Nat.le_of_ble_eq_true rfl) 4 rfl dX1_hiddenBoxes_1 (fun v σ1 hq => ?_)
  obtain ⟨rfl, f17, f18, f19, f20, ⟨sa, cv, fc⟩, ⟨h21, h22, h23⟩, hM⟩ := hq
  revert σ1
  intro σ hM
  dsimp only at h21 h22 h23
  have hM : MW D h ad σ0 (upd (upd (upd (upd F 17 f17) 18 f18) 19 f19) 20 f20) (uA (uA (uA A 21 sa) 22 cv) 23 fc) σ := hM
  refine g_iconst (v := 0) (by decide) 5 rfl dX1_hiddenBoxes_4 ?_
  refine g_istore_n rfl sa_1 6 rfl dX1_hiddenBoxes_5 ?_
  refine g_iconst (v := 0) (by decide) 7 rfl dX1_hiddenBoxes_6 ?_
  refine g_istore_n rfl sa_2 8 rfl dX1_hiddenBoxes_7 ?_
  have lp8 : ∀ (fu i : Nat) (x1 : Int32) (σ : Hp), i ≤ 12 → 12 + 1 ≤ i + fu → (x1 = sm (fun k => bI (isBx (A 0) (nI k) && decide ((LAc (A 0)).1 k = 0))) i) → MW D h ad σ0 (upd (upd (upd (upd F 17 f17) 18 f18) 19 f19) 20 f20) (uA (uA (uA A 21 sa) 22 cv) 23 fc) σ → G z cX1_hiddenBoxes RX1 3 rX1_hiddenBoxes D b σ 0 0 8 [some (.ref h), some (.int x1), some (.int (nI i))] [] := by
    intro fu
    induction fu with
    | zero => intros; omega
    | succ fu ih8 =>
      intro i x1 σ hi hf hx hM
      refine g_iload_n rfl ld_2 9 rfl dX1_hiddenBoxes_8 ?_
      refine g_bipush (v := 12) (by decide) 11 rfl dX1_hiddenBoxes_9 ?_
      refine g_icmp_geN (a := i) (c := 12) rfl (show (12 : Int32) = nI 12 from rfl) (by omega) (by omega) 45 14 rfl (by decide) dX1_hiddenBoxes_11 (fun c11 => ?_) (fun c11 => ?_)
      · obtain rfl : i = 12 := by omega
        refine g_iload_n rfl ld_1 46 rfl dX1_hiddenBoxes_45 ?_
        exact g_iret hR rfl (Nat.le_of_ble_eq_true rfl) (Nat.le_of_ble_eq_true rfl) ⟨_, rfl, hx, _, _, (sF_upd (sF_upd (sF_upd (sF_upd (sF_refl _ _) (by decide) _) (by decide) _) (by decide) _) (by decide) _), (sA_upd (sA_upd (sA_upd (sA_refl _ _) (by decide) _) (by decide) _) (by decide) _), hM⟩ dX1_hiddenBoxes_46
      · refine g_iload_n rfl ld_1 15 rfl dX1_hiddenBoxes_14 ?_
        have j37 : ∀ y : Int32, y = bI (isBx (A 0) (nI i) && decide ((LAc (A 0)).1 i = 0)) → G z cX1_hiddenBoxes RX1 3 rX1_hiddenBoxes D b σ 0 0 37 [some (.ref h), some (.int x1), some (.int (nI i))] [.int y, .int x1] := by
          intro y hy
          refine g_iadd 38 rfl dX1_hiddenBoxes_37 ?_
          refine g_istore_n rfl sa_1 39 rfl dX1_hiddenBoxes_38 ?_
          refine g_iinc (v := nI (i + 1)) ld_2 (nI_1 _) sa_2 42 rfl dX1_hiddenBoxes_39 ?_
          refine g_goto 8 (by decide) dX1_hiddenBoxes_42 ?_
          exact ih8 (i + 1) (x1 + y) σ (by omega) (by omega) (by rw [hx, hy, sm]) hM
        refine g_aload_n rfl ld_0 16 rfl dX1_hiddenBoxes_15 ?_
        refine g_iload_n rfl ld_2 17 rfl dX1_hiddenBoxes_16 ?_
        refine g_callV (As := [.int (nI i)]) (rest := [.int x1]) (ci := 1) (v_X1_isBox z.l D b hM (w0 := A 0) rfl (nI i)) k_X1_isBox q1759 hM.1 rfl rfl rfl rfl (Nat.le_of_ble_eq_true rfl) ⟨Nat.le_of_ble_eq_true rfl, Nat.le_of_ble_eq_true rfl⟩ 0 0 (Nat.le_of_ble_eq_true rfl) (Nat.le_of_ble_eq_true rfl) (Nat.le_of_ble_eq_true rfl) (Nat.le_of_ble_eq_true rfl) 20 rfl dX1_hiddenBoxes_17 (fun v σ1 hq => ?_)
        obtain ⟨rfl, rfl⟩ := hq
        refine g_if_eqB 36 23 rfl (by decide) dX1_hiddenBoxes_20 (fun c20 => ?_) (fun c20 => ?_)
        · refine g_iconst (v := 0) (by decide) 37 rfl dX1_hiddenBoxes_36 ?_
          exact j37 ((0 : Int32)) (by first | (rw [c20]; rfl) | (rw [c20, decide_eq_true ((h21 i (by omega)).symm.trans c29)]; rfl) | (rw [c20, decide_eq_false (fun e => c29 ((h21 i (by omega)).trans e))]; rfl))
        · refine g_aload_n rfl ld_0 24 rfl dX1_hiddenBoxes_23 ?_
          refine g_getf (kf := 21) (v := .ref (ad 21)) hM.1 rfl rfl in_X1 (by decide) q1682 rfl 27 rfl dX1_hiddenBoxes_24 ?_
          refine g_iload_n rfl ld_2 28 rfl dX1_hiddenBoxes_27 ?_
          refine g_iald (j := i) (f := sa) hM.a21 rfl (by omega) (by decide) 29 rfl dX1_hiddenBoxes_28 ?_
          refine g_if_ne 36 32 rfl (by decide) dX1_hiddenBoxes_29 (fun c29 => ?_) (fun c29 => ?_)
          · refine g_iconst (v := 0) (by decide) 37 rfl dX1_hiddenBoxes_36 ?_
            exact j37 ((0 : Int32)) (by first | (rw [c20]; rfl) | (rw [c20, decide_eq_true ((h21 i (by omega)).symm.trans c29)]; rfl) | (rw [c20, decide_eq_false (fun e => c29 ((h21 i (by omega)).trans e))]; rfl))
          · refine g_iconst (v := 1) (by decide) 33 rfl dX1_hiddenBoxes_32 ?_
            refine g_goto 37 (by decide) dX1_hiddenBoxes_33 ?_
            exact j37 ((1 : Int32)) (by first | (rw [c20]; rfl) | (rw [c20, decide_eq_true ((h21 i (by omega)).symm.trans c29)]; rfl) | (rw [c20, decide_eq_false (fun e => c29 ((h21 i (by omega)).trans e))]; rfl))
  exact lp8 (12 + 1) 0 ((0 : Int32)) σ (by omega) (by omega) (rfl) hM
theorem v_X1_hiddenBoxes (l : Launch) (D : DD) (b : Nat) {h : Nat} {ad : Nat → Nat} {σ0 : Hp} {F : Nat → Int32} {A : Nat → Nat → Int32} {σ : Hp} (hM : MW D h ad σ0 F A σ) {w0 : Nat → Int32} (hw0 : A 0 = w0) : CM l yX1_hiddenBoxes cX1_hiddenBoxes 3 (some .int) rX1_hiddenBoxes D b [.ref h] σ (PI (fun r σ' => r = hidR (w0) ∧ ∃ F' A', sameF [17, 18, 19, 20] F F' ∧ sameA [21, 22, 23] A A' ∧ MW D h ad σ0 F' A' σ')) := by
  subst hw0
  exact c_X1_hiddenBoxes l D b hM 
def rX1_greatestCover : Room := { frames := 5, cells := 0, slots := 0, locals := 105 }
theorem k_X1_greatestCover : CV yX1_greatestCover cX1_greatestCover 4 (some .int) 1 := ⟨q1976, q1977, q81, q1978, by decide +kernel, by decide +kernel, by decide +kernel⟩
set_option maxHeartbeats 400000 in
theorem c_X1_greatestCover (l : Launch) (D : DD) (b : Nat) {h : Nat} {ad : Nat → Nat} {σ0 : Hp} {F : Nat → Int32} {A : Nat → Nat → Int32} {σ : Hp} (hM : MW D h ad σ0 F A σ) (v : Int32) : CM l yX1_greatestCover cX1_greatestCover 4 (some .int) rX1_greatestCover D b [.ref h, .int v] σ (PI (fun r σ' => r = gcovR (A 0) v ∧ ∃ F' A', sameF [17, 18, 19, 20] F F' ∧ sameA [21, 22, 23] A A' ∧ MW D h ad σ0 F' A' σ')) := by
  refine CM_of [some (.ref h), some (.int v), none, none] RX1 (by decide) rfl (cat_all rfl) (Nat.le_of_ble_eq_true rfl) rfl ?_
  intro z hz hR hnm
  refine g_iload_n rfl ld_1 1 rfl dX1_greatestCover_0 ?_
  refine g_iconst (v := 0) (by decide) 2 rfl dX1_greatestCover_1 ?_
  refine g_iconst (v := 1) (by decide) 3 rfl dX1_greatestCover_2 ?_
  refine g_callS (As := [.int v, .int ((0 : Int32)), .int ((1 : Int32))]) (rest := []) (c_X1_isIn z.l D b (σ := σ) v ((0 : Int32)) ((1 : Int32))) k_X1_isIn q1763 rfl rfl (Nat.le_of_ble_eq_true rfl) ⟨Nat.le_of_ble_eq_true rfl, Nat.le_of_ble_eq_true rfl⟩ 0 0 (Nat.le_of_ble_eq_true rfl) (Nat.le_of_ble_eq_true rfl) (Nat.le_of_ble_eq_true rfl) (Nat.le_of_ble_eq_true rfl) 6 rfl dX1_greatestCover_3 (fun v σ1 hq => ?_)
  obtain ⟨rfl, rfl⟩ := hq
  refine g_if_neB 12 9 rfl (by decide) dX1_greatestCover_6 (fun c6 => ?_) (fun c6 => ?_)
  · refine g_aload_n rfl ld_0 13 rfl dX1_greatestCover_12 ?_
    refine g_callV (As := []) (rest := []) (ci := 1) (v_X1_lookAll z.l D b hM (w0 := A 0) rfl ) k_X1_lookAll q1959 hM.1 rfl rfl rfl rfl (Nat.le_of_ble_eq_true rfl) ⟨Nat.le_of_ble_eq_true rfl, Nat.le_of_ble_eq_true rfl⟩ 0 0 (Nat.le_of_ble_eq_true rfl) (Nat.le_of_ble_eq_true rfl) (Nat.le_of_ble_eq_true rfl) (Nat.le_of_ble_eq_true rfl) 16 rfl dX1_greatestCover_13 (fun v σ1 hq => ?_)
    obtain ⟨rfl, f17, f18, f19, f20, ⟨sa, cv, fc⟩, ⟨h21, h22, h23⟩, hM⟩ := hq
    revert σ1
    intro σ hM
    dsimp only at h21 h22 h23
    have hM : MW D h ad σ0 (upd (upd (upd (upd F 17 f17) 18 f18) 19 f19) 20 f20) (uA (uA (uA A 21 sa) 22 cv) 23 fc) σ := hM
    refine g_bipush (v := -106) (by decide) 18 rfl dX1_greatestCover_16 ?_
    refine g_istore_n rfl sa_2 19 rfl dX1_greatestCover_18 ?_
    refine g_iconst (v := 0) (by decide) 20 rfl dX1_greatestCover_19 ?_
    refine g_istore_n rfl sa_3 21 rfl dX1_greatestCover_20 ?_
    have lp21 : ∀ (fu i : Nat) (x2 : Int32) (σ : Hp), i ≤ 12 → 12 + 1 ≤ i + fu → (x2 = oM (gcN (A 0) i)) → MW D h ad σ0 (upd (upd (upd (upd F 17 f17) 18 f18) 19 f19) 20 f20) (uA (uA (uA A 21 sa) 22 cv) 23 fc) σ → G z cX1_greatestCover RX1 4 rX1_greatestCover D b σ 0 0 21 [some (.ref h), some (.int v), some (.int x2), some (.int (nI i))] [] := by
      intro fu
      induction fu with
      | zero => intros; omega
      | succ fu ih21 =>
        intro i x2 σ hi hf hx hM
        refine g_iload_n rfl ld_3 22 rfl dX1_greatestCover_21 ?_
        refine g_bipush (v := 12) (by decide) 24 rfl dX1_greatestCover_22 ?_
        refine g_icmp_geN (a := i) (c := 12) rfl (show (12 : Int32) = nI 12 from rfl) (by omega) (by omega) 68 27 rfl (by decide) dX1_greatestCover_24 (fun c24 => ?_) (fun c24 => ?_)
        · obtain rfl : i = 12 := by omega
          have hgl := gc_le (A 0) 12
          obtain ⟨g, hg⟩ : ∃ g, gcN (A 0) 12 = g := ⟨_, rfl⟩
          rw [hg] at hgl hx
          refine g_iload_n rfl ld_2 69 rfl dX1_greatestCover_68 ?_
          refine g_bipush (v := -106) (by decide) 71 rfl dX1_greatestCover_69 ?_
          refine g_icmp_eq 78 74 rfl (by decide) dX1_greatestCover_71 (fun c71 => ?_) (fun c71 => ?_)
          · refine g_iload_n rfl ld_2 79 rfl dX1_greatestCover_78 ?_
            refine g_goto 88 (by decide) dX1_greatestCover_79 ?_
            exact g_iret hR rfl (Nat.le_of_ble_eq_true rfl) (Nat.le_of_ble_eq_true rfl) ⟨_, rfl, by rw [gcovR, if_pos c6, hg, if_pos (by first | exact Or.inl ((oM_eq (by omega)).1 (hx.symm.trans c71)) | exact Or.inr c75)]; exact hx, _, _, (sF_upd (sF_upd (sF_upd (sF_upd (sF_refl _ _) (by decide) _) (by decide) _) (by decide) _) (by decide) _), (sA_upd (sA_upd (sA_upd (sA_refl _ _) (by decide) _) (by decide) _) (by decide) _), hM⟩ dX1_greatestCover_88
          · refine g_iload_n rfl ld_1 75 rfl dX1_greatestCover_74 ?_
            refine g_if_ne 82 78 rfl (by decide) dX1_greatestCover_75 (fun c75 => ?_) (fun c75 => ?_)
            · have hg12 : ¬ g = 12 := fun e => c71 (hx.trans ((oM_eq (by omega)).2 e))
              rw [oM_lt (show g < 12 by omega)] at hx
              subst hx
              refine g_aload_n rfl ld_0 83 rfl dX1_greatestCover_82 ?_
              refine g_getf (kf := 22) (v := .ref (ad 22)) hM.1 rfl rfl in_X1 (by decide) q1683 rfl 86 rfl dX1_greatestCover_83 ?_
              refine g_iload_n rfl ld_2 87 rfl dX1_greatestCover_86 ?_
              refine g_iald (j := g) (f := cv) hM.a22 rfl (by omega) (by decide) 88 rfl dX1_greatestCover_87 ?_
              exact g_iret hR rfl (Nat.le_of_ble_eq_true rfl) (Nat.le_of_ble_eq_true rfl) ⟨_, rfl, by rw [gcovR, if_pos c6, hg, if_neg (by rintro (e | e); exact hg12 e; exact c75 e)]; exact h22 g (by omega), _, _, (sF_upd (sF_upd (sF_upd (sF_upd (sF_refl _ _) (by decide) _) (by decide) _) (by decide) _) (by decide) _), (sA_upd (sA_upd (sA_upd (sA_refl _ _) (by decide) _) (by decide) _) (by decide) _), hM⟩ dX1_greatestCover_88
            · refine g_iload_n rfl ld_2 79 rfl dX1_greatestCover_78 ?_
              refine g_goto 88 (by decide) dX1_greatestCover_79 ?_
              exact g_iret hR rfl (Nat.le_of_ble_eq_true rfl) (Nat.le_of_ble_eq_true rfl) ⟨_, rfl, by rw [gcovR, if_pos c6, hg, if_pos (by first | exact Or.inl ((oM_eq (by omega)).1 (hx.symm.trans c71)) | exact Or.inr c75)]; exact hx, _, _, (sF_upd (sF_upd (sF_upd (sF_upd (sF_refl _ _) (by decide) _) (by decide) _) (by decide) _) (by decide) _), (sA_upd (sA_upd (sA_upd (sA_refl _ _) (by decide) _) (by decide) _) (by decide) _), hM⟩ dX1_greatestCover_88
        · refine g_aload_n rfl ld_0 28 rfl dX1_greatestCover_27 ?_
          refine g_iload_n rfl ld_3 29 rfl dX1_greatestCover_28 ?_
          refine g_callV (As := [.int (nI i)]) (rest := []) (ci := 1) (v_X1_isBox z.l D b hM (w0 := A 0) rfl (nI i)) k_X1_isBox q1759 hM.1 rfl rfl rfl rfl (Nat.le_of_ble_eq_true rfl) ⟨Nat.le_of_ble_eq_true rfl, Nat.le_of_ble_eq_true rfl⟩ 0 0 (Nat.le_of_ble_eq_true rfl) (Nat.le_of_ble_eq_true rfl) (Nat.le_of_ble_eq_true rfl) (Nat.le_of_ble_eq_true rfl) 32 rfl dX1_greatestCover_29 (fun v σ1 hq => ?_)
          obtain ⟨rfl, rfl⟩ := hq
          refine g_if_eqB 60 35 rfl (by decide) dX1_greatestCover_32 (fun c32 => ?_) (fun c32 => ?_)
          · refine g_iload_n rfl ld_2 61 rfl dX1_greatestCover_60 ?_
            refine g_istore_n rfl sa_2 62 rfl dX1_greatestCover_61 ?_
            refine g_iinc (v := nI (i + 1)) ld_3 (nI_1 _) sa_3 65 rfl dX1_greatestCover_62 ?_
            refine g_goto 21 (by decide) dX1_greatestCover_65 ?_
            exact ih21 (i + 1) x2 σ (by omega) (by omega) (by rw [hx, gcN, if_neg (by simp [c32])]) hM
          · have hgl := gc_le (A 0) i
            obtain ⟨g, hg⟩ : ∃ g, gcN (A 0) i = g := ⟨_, rfl⟩
            rw [hg] at hgl hx
            have hg1 : gcN (A 0) (i + 1) = (if g = 12 ∨ (LAc (A 0)).2.1 g < (LAc (A 0)).2.1 i then i else g) := by rw [gcN, if_pos c32, hg]
            have j61 : ∀ y : Int32, y = oM (gcN (A 0) (i + 1)) → G z cX1_greatestCover RX1 4 rX1_greatestCover D b σ 0 0 61 [some (.ref h), some (.int v), some (.int x2), some (.int (nI i))] [.int y] := by
              intro y hy
              refine g_istore_n rfl sa_2 62 rfl dX1_greatestCover_61 ?_
              refine g_iinc (v := nI (i + 1)) ld_3 (nI_1 _) sa_3 65 rfl dX1_greatestCover_62 ?_
              refine g_goto 21 (by decide) dX1_greatestCover_65 ?_
              exact ih21 (i + 1) y σ (by omega) (by omega) (hy) hM
            refine g_iload_n rfl ld_2 36 rfl dX1_greatestCover_35 ?_
            refine g_bipush (v := -106) (by decide) 38 rfl dX1_greatestCover_36 ?_
            refine g_icmp_eq 56 41 rfl (by decide) dX1_greatestCover_38 (fun c38 => ?_) (fun c38 => ?_)
            · refine g_iload_n rfl ld_3 57 rfl dX1_greatestCover_56 ?_
              refine g_goto 61 (by decide) dX1_greatestCover_57 ?_
              exact j61 (nI i) (by rw [hg1, if_pos (Or.inl ((oM_eq (by omega)).1 (hx.symm.trans c38)))]; exact (oM_lt (by omega)).symm)
            · have hg12 : ¬ g = 12 := fun e => c38 (hx.trans ((oM_eq (by omega)).2 e))
              rw [oM_lt (show g < 12 by omega)] at hx
              subst hx
              refine g_aload_n rfl ld_0 42 rfl dX1_greatestCover_41 ?_
              refine g_getf (kf := 22) (v := .ref (ad 22)) hM.1 rfl rfl in_X1 (by decide) q1683 rfl 45 rfl dX1_greatestCover_42 ?_
              refine g_iload_n rfl ld_3 46 rfl dX1_greatestCover_45 ?_
              refine g_iald (j := i) (f := cv) hM.a22 rfl (by omega) (by decide) 47 rfl dX1_greatestCover_46 ?_
              refine g_aload_n rfl ld_0 48 rfl dX1_greatestCover_47 ?_
              refine g_getf (kf := 22) (v := .ref (ad 22)) hM.1 rfl rfl in_X1 (by decide) q1683 rfl 51 rfl dX1_greatestCover_48 ?_
              refine g_iload_n rfl ld_2 52 rfl dX1_greatestCover_51 ?_
              refine g_iald (j := g) (f := cv) hM.a22 rfl (by omega) (by decide) 53 rfl dX1_greatestCover_52 ?_
              refine g_icmp_le 60 56 rfl (by decide) dX1_greatestCover_53 (fun c53 => ?_) (fun c53 => ?_)
              · refine g_iload_n rfl ld_2 61 rfl dX1_greatestCover_60 ?_
                exact j61 (nI g) (by rw [hg1, if_neg (by rw [← h22 g (by omega), ← h22 i (by omega)]; rintro (e | e); exact hg12 e; exact c53 e)]; exact (oM_lt (by omega)).symm)
              · refine g_iload_n rfl ld_3 57 rfl dX1_greatestCover_56 ?_
                refine g_goto 61 (by decide) dX1_greatestCover_57 ?_
                exact j61 (nI i) (by rw [hg1, if_pos (Or.inr (by rw [← h22 g (by omega), ← h22 i (by omega)]; exact c53))]; exact (oM_lt (by omega)).symm)
    exact lp21 (12 + 1) 0 ((-106 : Int32)) σ (by omega) (by omega) (oM_12.symm) hM
  · refine g_bipush (v := -102) (by decide) 11 rfl dX1_greatestCover_9 ?_
    exact g_iret hR rfl (Nat.le_of_ble_eq_true rfl) (Nat.le_of_ble_eq_true rfl) ⟨_, rfl, by rw [gcovR, if_neg (by simp [c6])], _, _, (sF_refl _ _), (sA_refl _ _), hM⟩ dX1_greatestCover_11
theorem v_X1_greatestCover (l : Launch) (D : DD) (b : Nat) {h : Nat} {ad : Nat → Nat} {σ0 : Hp} {F : Nat → Int32} {A : Nat → Nat → Int32} {σ : Hp} (hM : MW D h ad σ0 F A σ) {w0 : Nat → Int32} (hw0 : A 0 = w0) (v : Int32) : CM l yX1_greatestCover cX1_greatestCover 4 (some .int) rX1_greatestCover D b [.ref h, .int v] σ (PI (fun r σ' => r = gcovR (w0) v ∧ ∃ F' A', sameF [17, 18, 19, 20] F F' ∧ sameA [21, 22, 23] A A' ∧ MW D h ad σ0 F' A' σ')) := by
  subst hw0
  exact c_X1_greatestCover l D b hM v
