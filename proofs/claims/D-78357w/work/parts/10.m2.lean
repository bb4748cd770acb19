/-! THE REFERENCE, part 2: public changes, order of boxes -/
set_option maxRecDepth 100000
theorem lowR_le (w : Nat → Int32) : lowR w ≤ 12 := ffN_le _ _ _ (by decide)
def trA (A : Nat → Nat → Int32) (a0 a1 a2 a3 a4 a5 : Int32) : Nat → Nat → Int32 := uA A 7 (tr6 (A 7) a0 a1 a2 a3 a4 a5)
def kpF (F : Nat → Int32) (c : Nat) : Nat → Int32 := upd F 2 (nI (kc c + 1))
abbrev MS : Type := Int32 × (Nat → Int32) × (Nat → Nat → Int32)
def addM (F : Nat → Int32) (A : Nat → Nat → Int32) (c : Nat) (a0 a1 a2 a3 a4 a5 : Int32) : MS :=
  if possR (tr6 (A 7) a0 a1 a2 a3 a4 a5) = false then (-102, F, trA A a0 a1 a2 a3 a4 a5)
  else if ¬ metR (tr6 (A 7) a0 a1 a2 a3 a4 a5) (A 0) (-1) = -106 then (-103, F, trA A a0 a1 a2 a3 a4 a5)
  else if lowR (A 0) = 12 then (-104, F, trA A a0 a1 a2 a3 a4 a5)
  else (nI (lowR (A 0)), kpF F c, uA (uA (trA A a0 a1 a2 a3 a4 a5) 1 (keepP (A 1) (A 0) c)) 0 (layW (A 0) (tr6 (A 7) a0 a1 a2 a3 a4 a5) (lowR (A 0))))
def rX1_add : Room := { frames := 4, cells := 0, slots := 0, locals := 78 }
theorem k_X1_add : CV yX1_add cX1_add 8 (some .int) 6 := ⟨q1748, q1749, q81, q1750, by decide +kernel, by decide +kernel, by decide +kernel⟩
set_option maxHeartbeats 400000 in
theorem c_X1_add (l : Launch) (D : DD) (b : Nat) {h : Nat} {ad : Nat → Nat} {σ0 : Hp} {F : Nat → Int32} {A : Nat → Nat → Int32} {σ : Hp} (hM : MW D h ad σ0 F A σ) (c : Nat) (hc : F 2 = nI c) (hc8 : c ≤ 8) (a0 a1 a2 a3 a4 a5 : Int32) : CM l yX1_add cX1_add 8 (some .int) rX1_add D b [.ref h, .int a0, .int a1, .int a2, .int a3, .int a4, .int a5] σ (PI (fun r σ' => r = (addM F A c a0 a1 a2 a3 a4 a5).1 ∧ MW D h ad σ0 (addM F A c a0 a1 a2 a3 a4 a5).2.1 (addM F A c a0 a1 a2 a3 a4 a5).2.2 σ')) := by
  refine CM_of [some (.ref h), some (.int a0), some (.int a1), some (.int a2), some (.int a3), some (.int a4), some (.int a5), none] RX1 (by decide) rfl (cat_all rfl) (Nat.le_of_ble_eq_true rfl) rfl ?_
  intro z hz hR hnm
  have hlow := lowR_le (A 0)
  refine g_aload_n rfl ld_0 1 rfl dX1_add_0 ?_
  refine g_iload_n rfl ld_1 2 rfl dX1_add_1 ?_
  refine g_iload_n rfl ld_2 3 rfl dX1_add_2 ?_
  refine g_iload_n rfl ld_3 4 rfl dX1_add_3 ?_
  refine g_iload ld_4 6 rfl dX1_add_4 ?_
  refine g_iload ld_5 8 rfl dX1_add_6 ?_
  refine g_iload ld_6 10 rfl dX1_add_8 ?_
  refine g_callV (As := [.int a0, .int a1, .int a2, .int a3, .int a4, .int a5]) (rest := []) (ci := 1) (v_X1_isTrial z.l D b hM (w7 := A 7) rfl a0 a1 a2 a3 a4 a5) k_X1_isTrial q1751 hM.1 rfl rfl rfl rfl (Nat.le_of_ble_eq_true rfl) ⟨Nat.le_of_ble_eq_true rfl, Nat.le_of_ble_eq_true rfl⟩ 0 0 (Nat.le_of_ble_eq_true rfl) (Nat.le_of_ble_eq_true rfl) (Nat.le_of_ble_eq_true rfl) (Nat.le_of_ble_eq_true rfl) 13 rfl dX1_add_10 (fun v σ1 hq => ?_)
  obtain ⟨_, rfl, rfl, hM⟩ := hq
  revert σ1
  intro σ hM
  refine g_if_neB 19 16 rfl (by decide) dX1_add_13 (fun c13 => ?_) (fun c13 => ?_)
  · refine g_aload_n rfl ld_0 20 rfl dX1_add_19 ?_
    refine g_iconst (v := -1) (by decide) 21 rfl dX1_add_20 ?_
    refine g_callV (As := [.int ((-1 : Int32))]) (rest := []) (ci := 1) (v_X1_metByTrial z.l D b hM (w0 := A 0) rfl (w7 := tr6 (A 7) a0 a1 a2 a3 a4 a5) rfl ((-1 : Int32))) k_X1_metByTrial q1755 hM.1 rfl rfl rfl rfl (Nat.le_of_ble_eq_true rfl) ⟨Nat.le_of_ble_eq_true rfl, Nat.le_of_ble_eq_true rfl⟩ 0 0 (Nat.le_of_ble_eq_true rfl) (Nat.le_of_ble_eq_true rfl) (Nat.le_of_ble_eq_true rfl) (Nat.le_of_ble_eq_true rfl) 24 rfl dX1_add_21 (fun v σ1 hq => ?_)
    obtain ⟨rfl, rfl⟩ := hq
    refine g_bipush (v := -106) (by decide) 26 rfl dX1_add_24 ?_
    refine g_icmp_eq 32 29 rfl (by decide) dX1_add_26 (fun c26 => ?_) (fun c26 => ?_)
    · refine g_aload_n rfl ld_0 33 rfl dX1_add_32 ?_
      refine g_callV (As := []) (rest := []) (ci := 1) (v_X1_lowestFree z.l D b hM (w0 := A 0) rfl ) k_X1_lowestFree q1769 hM.1 rfl rfl rfl rfl (Nat.le_of_ble_eq_true rfl) ⟨Nat.le_of_ble_eq_true rfl, Nat.le_of_ble_eq_true rfl⟩ 0 0 (Nat.le_of_ble_eq_true rfl) (Nat.le_of_ble_eq_true rfl) (Nat.le_of_ble_eq_true rfl) (Nat.le_of_ble_eq_true rfl) 36 rfl dX1_add_33 (fun v σ1 hq => ?_)
      obtain ⟨rfl, rfl⟩ := hq
      refine g_istore sa_7 38 rfl dX1_add_36 ?_
      refine g_iload ld_7 40 rfl dX1_add_38 ?_
      refine g_bipush (v := 12) (by decide) 42 rfl dX1_add_40 ?_
      refine g_icmp_neN (a := (lowR (A 0))) (c := 12) rfl (show (12 : Int32) = nI 12 from rfl) (by omega) (by omega) 48 45 rfl (by decide) dX1_add_42 (fun c42 => ?_) (fun c42 => ?_)
      · refine g_aload_n rfl ld_0 49 rfl dX1_add_48 ?_
        refine g_callV (As := []) (rest := []) (ci := 1) (v_X1_keep z.l D b hM (w0 := A 0) rfl (w1 := A 1) rfl c hc hc8) k_X1_keep q1773 hM.1 rfl rfl rfl rfl (Nat.le_of_ble_eq_true rfl) ⟨Nat.le_of_ble_eq_true rfl, Nat.le_of_ble_eq_true rfl⟩ 0 0 (Nat.le_of_ble_eq_true rfl) (Nat.le_of_ble_eq_true rfl) (Nat.le_of_ble_eq_true rfl) (Nat.le_of_ble_eq_true rfl) 52 rfl dX1_add_49 (fun v σ1 hq => ?_)
        obtain ⟨rfl, hM⟩ := hq
        revert σ1
        intro σ hM
        refine g_aload_n rfl ld_0 53 rfl dX1_add_52 ?_
        refine g_iload ld_7 55 rfl dX1_add_53 ?_
        refine g_callV (As := [.int (nI (lowR (A 0)))]) (rest := []) (ci := 1) (v_X1_lay z.l D b hM (w0 := A 0) rfl (w7 := tr6 (A 7) a0 a1 a2 a3 a4 a5) rfl (lowR (A 0)) (by omega)) k_X1_lay q1777 hM.1 rfl rfl rfl rfl (Nat.le_of_ble_eq_true rfl) ⟨Nat.le_of_ble_eq_true rfl, Nat.le_of_ble_eq_true rfl⟩ 0 0 (Nat.le_of_ble_eq_true rfl) (Nat.le_of_ble_eq_true rfl) (Nat.le_of_ble_eq_true rfl) (Nat.le_of_ble_eq_true rfl) 58 rfl dX1_add_55 (fun v σ1 hq => ?_)
        obtain ⟨rfl, hM⟩ := hq
        revert σ1
        intro σ hM
        refine g_iload ld_7 60 rfl dX1_add_58 ?_
        have e9 : addM F A c a0 a1 a2 a3 a4 a5 = (nI (lowR (A 0)), upd F 2 (nI (kc c + 1)), uA (uA (uA A 7 (tr6 (A 7) a0 a1 a2 a3 a4 a5)) 1 (keepP (A 1) (A 0) c)) 0 (layW (A 0) (tr6 (A 7) a0 a1 a2 a3 a4 a5) (lowR (A 0)))) := by simp [addM, trA, kpF, *]
        exact g_iret hR rfl (Nat.le_of_ble_eq_true rfl) (Nat.le_of_ble_eq_true rfl) ⟨_, rfl, by rw [e9], by rw [e9]; exact hM⟩ dX1_add_60
      · refine g_bipush (v := -104) (by decide) 47 rfl dX1_add_45 ?_
        have e9 : addM F A c a0 a1 a2 a3 a4 a5 = ((-104 : Int32), F, uA A 7 (tr6 (A 7) a0 a1 a2 a3 a4 a5)) := by simp [addM, trA, kpF, *]
        exact g_iret hR rfl (Nat.le_of_ble_eq_true rfl) (Nat.le_of_ble_eq_true rfl) ⟨_, rfl, by rw [e9], by rw [e9]; exact hM⟩ dX1_add_47
    · refine g_bipush (v := -103) (by decide) 31 rfl dX1_add_29 ?_
      have e9 : addM F A c a0 a1 a2 a3 a4 a5 = ((-103 : Int32), F, uA A 7 (tr6 (A 7) a0 a1 a2 a3 a4 a5)) := by simp [addM, trA, kpF, *]
      exact g_iret hR rfl (Nat.le_of_ble_eq_true rfl) (Nat.le_of_ble_eq_true rfl) ⟨_, rfl, by rw [e9], by rw [e9]; exact hM⟩ dX1_add_31
  · refine g_bipush (v := -102) (by decide) 18 rfl dX1_add_16 ?_
    have e9 : addM F A c a0 a1 a2 a3 a4 a5 = ((-102 : Int32), F, uA A 7 (tr6 (A 7) a0 a1 a2 a3 a4 a5)) := by simp [addM, trA, kpF, *]
    exact g_iret hR rfl (Nat.le_of_ble_eq_true rfl) (Nat.le_of_ble_eq_true rfl) ⟨_, rfl, by rw [e9], by rw [e9]; exact hM⟩ dX1_add_18
def removeM (F : Nat → Int32) (A : Nat → Nat → Int32) (c : Nat) (v : Int32) : MS :=
  if isBx (A 0) v = true then (manyR (upd (A 0) (7 * v.toNatClampNeg + 6) 0), kpF F c, uA (uA A 1 (keepP (A 1) (A 0) c)) 0 (upd (A 0) (7 * v.toNatClampNeg + 6) 0)) else (-101, F, A)
def rX1_remove : Room := { frames := 3, cells := 0, slots := 0, locals := 55 }
theorem k_X1_remove : CV yX1_remove cX1_remove 2 (some .int) 1 := ⟨q1782, q1783, q81, q1784, by decide +kernel, by decide +kernel, by decide +kernel⟩
set_option maxHeartbeats 400000 in
theorem c_X1_remove (l : Launch) (D : DD) (b : Nat) {h : Nat} {ad : Nat → Nat} {σ0 : Hp} {F : Nat → Int32} {A : Nat → Nat → Int32} {σ : Hp} (hM : MW D h ad σ0 F A σ) (c : Nat) (hc : F 2 = nI c) (hc8 : c ≤ 8) (v : Int32) : CM l yX1_remove cX1_remove 2 (some .int) rX1_remove D b [.ref h, .int v] σ (PI (fun r σ' => r = (removeM F A c v).1 ∧ MW D h ad σ0 (removeM F A c v).2.1 (removeM F A c v).2.2 σ')) := by
  refine CM_of [some (.ref h), some (.int v)] RX1 (by decide) rfl (cat_all rfl) (Nat.le_of_ble_eq_true rfl) rfl ?_
  intro z hz hR hnm
  refine g_aload_n rfl ld_0 1 rfl dX1_remove_0 ?_
  refine g_iload_n rfl ld_1 2 rfl dX1_remove_1 ?_
  refine g_callV (As := [.int v]) (rest := []) (ci := 1) (v_X1_isBox z.l D b hM (w0 := A 0) rfl v) k_X1_isBox q1759 hM.1 rfl rfl rfl rfl (Nat.le_of_ble_eq_true rfl) ⟨Nat.le_of_ble_eq_true rfl, Nat.le_of_ble_eq_true rfl⟩ 0 0 (Nat.le_of_ble_eq_true rfl) (Nat.le_of_ble_eq_true rfl) (Nat.le_of_ble_eq_true rfl) (Nat.le_of_ble_eq_true rfl) 5 rfl dX1_remove_2 (fun v σ1 hq => ?_)
  obtain ⟨rfl, rfl⟩ := hq
  refine g_if_neB 11 8 rfl (by decide) dX1_remove_5 (fun c5 => ?_) (fun c5 => ?_)
  · obtain ⟨j, hj, rfl, hwj⟩ := isBx_in c5
    have hclj := nI_clamp (show j < 2 ^ 31 by omega)
    refine g_aload_n rfl ld_0 12 rfl dX1_remove_11 ?_
    refine g_callV (As := []) (rest := []) (ci := 1) (v_X1_keep z.l D b hM (w0 := A 0) rfl (w1 := A 1) rfl c hc hc8) k_X1_keep q1773 hM.1 rfl rfl rfl rfl (Nat.le_of_ble_eq_true rfl) ⟨Nat.le_of_ble_eq_true rfl, Nat.le_of_ble_eq_true rfl⟩ 0 0 (Nat.le_of_ble_eq_true rfl) (Nat.le_of_ble_eq_true rfl) (Nat.le_of_ble_eq_true rfl) (Nat.le_of_ble_eq_true rfl) 15 rfl dX1_remove_12 (fun v σ1 hq => ?_)
    obtain ⟨rfl, hM⟩ := hq
    revert σ1
    intro σ hM
    refine g_aload_n rfl ld_0 16 rfl dX1_remove_15 ?_
    refine g_getf (kf := 0) (v := .ref (ad 0)) hM.1 rfl rfl in_X1 (by decide) q1661 rfl 19 rfl dX1_remove_16 ?_
    refine g_bipush (v := 7) (by decide) 21 rfl dX1_remove_19 ?_
    refine g_iload_n rfl ld_1 22 rfl dX1_remove_21 ?_
    refine g_imulN (a := 7) (c := j) (show (7 : Int32) = nI 7 from rfl) rfl 23 rfl dX1_remove_22 ?_
    refine g_bipush (v := 6) (by decide) 25 rfl dX1_remove_23 ?_
    refine g_iaddN (a := (7 * j)) (c := 6) rfl (show (6 : Int32) = nI 6 from rfl) 26 rfl dX1_remove_25 ?_
    refine g_iconst (v := 0) (by decide) 27 rfl dX1_remove_26 ?_
    refine gm_ast (j := ((7 * j) + 6)) 0 (by decide) (by decide) hM rfl (by simp only [msz]; omega) 28 rfl dX1_remove_27 (fun σ hM => ?_)
    refine g_aload_n rfl ld_0 29 rfl dX1_remove_28 ?_
    refine g_callV (As := []) (rest := []) (ci := 1) (v_X1_boxes z.l D b hM (w0 := upd (A 0) (((7 * j) + 6)) ((0 : Int32))) rfl ) k_X1_boxes q1785 hM.1 rfl rfl rfl rfl (Nat.le_of_ble_eq_true rfl) ⟨Nat.le_of_ble_eq_true rfl, Nat.le_of_ble_eq_true rfl⟩ 0 0 (Nat.le_of_ble_eq_true rfl) (Nat.le_of_ble_eq_true rfl) (Nat.le_of_ble_eq_true rfl) (Nat.le_of_ble_eq_true rfl) 32 rfl dX1_remove_29 (fun v σ1 hq => ?_)
    obtain ⟨rfl, rfl⟩ := hq
    have e9 : removeM F A c (nI j) = (manyR (upd (A 0) (((7 * j) + 6)) ((0 : Int32))), upd F 2 (nI (kc c + 1)), uA (uA A 1 (keepP (A 1) (A 0) c)) 0 (upd (A 0) (((7 * j) + 6)) ((0 : Int32)))) := by simp [removeM, kpF, *]
    exact g_iret hR rfl (Nat.le_of_ble_eq_true rfl) (Nat.le_of_ble_eq_true rfl) ⟨_, rfl, by rw [e9], by rw [e9]; exact hM⟩ dX1_remove_32
  · refine g_bipush (v := -101) (by decide) 10 rfl dX1_remove_8 ?_
    have e9 : removeM F A c v = ((-101 : Int32), F, A) := by simp [removeM, kpF, *]
    exact g_iret hR rfl (Nat.le_of_ble_eq_true rfl) (Nat.le_of_ble_eq_true rfl) ⟨_, rfl, by rw [e9], by rw [e9]; exact hM⟩ dX1_remove_10
def sbs (p : Nat → Bool) : Nat → Int32
  | 0 => 0
  | n + 1 => sbs p n ||| (if p n = true then 1 <<< (nI n &&& 31) else 0)
def setR (w : Nat → Int32) (j : Nat) : Int32 := sbs (fun i => isBx w (nI i) && bbR w i j) 12
def bitsR (s : Int32) : Int32 := sm (fun k => (s >>> (nI k &&& 31)) &&& 1) 12
def pairsR (w : Nat → Int32) : Int32 := sm (fun i => bitsR (if isBx w (nI i) = true then setR w i else 0)) 12
def behindR (w : Nat → Int32) (v : Int32) : Int32 := if isBx w v = true then setR w v.toNatClampNeg else -101
def rX1_setBehind : Room := { frames := 5, cells := 0, slots := 0, locals := 108 }
theorem k_X1_setBehind : CV yX1_setBehind cX1_setBehind 4 (some .int) 1 := ⟨q1803, qs53, q81, q1804, by decide +kernel, by decide +kernel, by decide +kernel⟩
set_option maxHeartbeats 400000 in
theorem c_X1_setBehind (l : Launch) (D : DD) (b : Nat) {h : Nat} {ad : Nat → Nat} {σ0 : Hp} {F : Nat → Int32} {A : Nat → Nat → Int32} {σ : Hp} (hM : MW D h ad σ0 F A σ) (j : Nat) (hj : j < 12) : CM l yX1_setBehind cX1_setBehind 4 (some .int) rX1_setBehind D b [.ref h, .int (nI j)] σ (PIx (setR (A 0) j) σ) := by
  refine CM_of [some (.ref h), some (.int (nI j)), none, none] RX1 (by decide) rfl (cat_all rfl) (Nat.le_of_ble_eq_true rfl) rfl ?_
  intro z hz hR hnm
  refine g_iconst (v := 0) (by decide) 1 rfl dX1_setBehind_0 ?_
  refine g_istore_n rfl sa_2 2 rfl dX1_setBehind_1 ?_
  refine g_iconst (v := 0) (by decide) 3 rfl dX1_setBehind_2 ?_
  refine g_istore_n rfl sa_3 4 rfl dX1_setBehind_3 ?_
  have lp4 : ∀ (fu i : Nat) (x2 : Int32), i ≤ 12 → 12 + 1 ≤ i + fu → (x2 = sbs (fun i => isBx (A 0) (nI i) && bbR (A 0) i j) i) → G z cX1_setBehind RX1 4 rX1_setBehind D b σ 0 0 4 [some (.ref h), some (.int (nI j)), some (.int x2), some (.int (nI i))] [] := by
    intro fu
    induction fu with
    | zero => intros; omega
    | succ fu ih4 =>
      intro i x2 hi hf hx
      refine g_iload_n rfl ld_3 5 rfl dX1_setBehind_4 ?_
      refine g_bipush (v := 12) (by decide) 7 rfl dX1_setBehind_5 ?_
      refine g_icmp_geN (a := i) (c := 12) rfl (show (12 : Int32) = nI 12 from rfl) (by omega) (by omega) 43 10 rfl (by decide) dX1_setBehind_7 (fun c7 => ?_) (fun c7 => ?_)
      · refine g_iload_n rfl ld_2 44 rfl dX1_setBehind_43 ?_
        exact g_iret hR rfl (Nat.le_of_ble_eq_true rfl) (Nat.le_of_ble_eq_true rfl) ⟨congrArg (fun p => some (Value.int p)) (show x2 = setR (A 0) j from by obtain rfl : i = 12 := (by omega); exact hx), rfl⟩ dX1_setBehind_44
      · have j36 : ∀ y : Int32, y = x2 ||| (if (isBx (A 0) (nI i) && bbR (A 0) i j) = true then 1 <<< (nI i &&& 31) else 0) → G z cX1_setBehind RX1 4 rX1_setBehind D b σ 0 0 36 [some (.ref h), some (.int (nI j)), some (.int x2), some (.int (nI i))] [.int y] := by
          intro y hy
          refine g_istore_n rfl sa_2 37 rfl dX1_setBehind_36 ?_
          refine g_iinc (v := nI (i + 1)) ld_3 (nI_1 _) sa_3 40 rfl dX1_setBehind_37 ?_
          refine g_goto 4 (by decide) dX1_setBehind_40 ?_
          exact ih4 (i + 1) y (by omega) (by omega) (by rw [hy, hx, sbs])
        refine g_iload_n rfl ld_2 11 rfl dX1_setBehind_10 ?_
        refine g_aload_n rfl ld_0 12 rfl dX1_setBehind_11 ?_
        refine g_iload_n rfl ld_3 13 rfl dX1_setBehind_12 ?_
        refine g_callV (As := [.int (nI i)]) (rest := [.int x2]) (ci := 1) (v_X1_isBox z.l D b hM (w0 := A 0) rfl (nI i)) k_X1_isBox q1759 hM.1 rfl rfl rfl rfl (Nat.le_of_ble_eq_true rfl) ⟨Nat.le_of_ble_eq_true rfl, Nat.le_of_ble_eq_true rfl⟩ 0 0 (Nat.le_of_ble_eq_true rfl) (Nat.le_of_ble_eq_true rfl) (Nat.le_of_ble_eq_true rfl) (Nat.le_of_ble_eq_true rfl) 16 rfl dX1_setBehind_13 (fun v σ1 hq => ?_)
        obtain ⟨rfl, rfl⟩ := hq
        refine g_if_eqB 34 19 rfl (by decide) dX1_setBehind_16 (fun c16 => ?_) (fun c16 => ?_)
        · refine g_iconst (v := 0) (by decide) 35 rfl dX1_setBehind_34 ?_
          refine g_ior 36 rfl dX1_setBehind_35 ?_
          exact j36 (x2 ||| ((0 : Int32))) (by simp [*])
        · refine g_aload_n rfl ld_0 20 rfl dX1_setBehind_19 ?_
          refine g_iload_n rfl ld_3 21 rfl dX1_setBehind_20 ?_
          refine g_iload_n rfl ld_1 22 rfl dX1_setBehind_21 ?_
          refine g_callV (As := [.int (nI i), .int (nI j)]) (rest := [.int x2]) (ci := 1) (v_X1_isBoxBehind z.l D b hM (w0 := A 0) rfl i j (by omega) (by omega)) k_X1_isBoxBehind q1805 hM.1 rfl rfl rfl rfl (Nat.le_of_ble_eq_true rfl) ⟨Nat.le_of_ble_eq_true rfl, Nat.le_of_ble_eq_true rfl⟩ 0 0 (Nat.le_of_ble_eq_true rfl) (Nat.le_of_ble_eq_true rfl) (Nat.le_of_ble_eq_true rfl) (Nat.le_of_ble_eq_true rfl) 25 rfl dX1_setBehind_22 (fun v σ1 hq => ?_)
          obtain ⟨rfl, rfl⟩ := hq
          refine g_if_eqB 34 28 rfl (by decide) dX1_setBehind_25 (fun c25 => ?_) (fun c25 => ?_)
          · refine g_iconst (v := 0) (by decide) 35 rfl dX1_setBehind_34 ?_
            refine g_ior 36 rfl dX1_setBehind_35 ?_
            exact j36 (x2 ||| ((0 : Int32))) (by simp [*])
          · refine g_iconst (v := 1) (by decide) 29 rfl dX1_setBehind_28 ?_
            refine g_iload_n rfl ld_3 30 rfl dX1_setBehind_29 ?_
            refine g_ishl 31 rfl dX1_setBehind_30 ?_
            refine g_goto 35 (by decide) dX1_setBehind_31 ?_
            refine g_ior 36 rfl dX1_setBehind_35 ?_
            exact j36 (x2 ||| (((1 : Int32)) <<< ((nI i) &&& 31))) (by simp [*])
  exact lp4 (12 + 1) 0 ((0 : Int32)) (by omega) (by omega) (rfl)
theorem v_X1_setBehind (l : Launch) (D : DD) (b : Nat) {h : Nat} {ad : Nat → Nat} {σ0 : Hp} {F : Nat → Int32} {A : Nat → Nat → Int32} {σ : Hp} (hM : MW D h ad σ0 F A σ) {w0 : Nat → Int32} (hw0 : A 0 = w0) (j : Nat) (hj : j < 12) : CM l yX1_setBehind cX1_setBehind 4 (some .int) rX1_setBehind D b [.ref h, .int (nI j)] σ (PIx (setR (w0) j) σ) := by
  subst hw0
  exact c_X1_setBehind l D b hM j hj
def rX1_behind : Room := { frames := 6, cells := 0, slots := 0, locals := 131 }
theorem k_X1_behind : CV yX1_behind cX1_behind 2 (some .int) 1 := ⟨q1848, q1849, q81, q1850, by decide +kernel, by decide +kernel, by decide +kernel⟩
set_option maxHeartbeats 400000 in
theorem c_X1_behind (l : Launch) (D : DD) (b : Nat) {h : Nat} {ad : Nat → Nat} {σ0 : Hp} {F : Nat → Int32} {A : Nat → Nat → Int32} {σ : Hp} (hM : MW D h ad σ0 F A σ) (v : Int32) : CM l yX1_behind cX1_behind 2 (some .int) rX1_behind D b [.ref h, .int v] σ (PIx (behindR (A 0) v) σ) := by
  refine CM_of [some (.ref h), some (.int v)] RX1 (by decide) rfl (cat_all rfl) (Nat.le_of_ble_eq_true rfl) rfl ?_
  intro z hz hR hnm
  refine g_aload_n rfl ld_0 1 rfl dX1_behind_0 ?_
  refine g_iload_n rfl ld_1 2 rfl dX1_behind_1 ?_
  refine g_callV (As := [.int v]) (rest := []) (ci := 1) (v_X1_isBox z.l D b hM (w0 := A 0) rfl v) k_X1_isBox q1759 hM.1 rfl rfl rfl rfl (Nat.le_of_ble_eq_true rfl) ⟨Nat.le_of_ble_eq_true rfl, Nat.le_of_ble_eq_true rfl⟩ 0 0 (Nat.le_of_ble_eq_true rfl) (Nat.le_of_ble_eq_true rfl) (Nat.le_of_ble_eq_true rfl) (Nat.le_of_ble_eq_true rfl) 5 rfl dX1_behind_2 (fun v σ1 hq => ?_)
  obtain ⟨rfl, rfl⟩ := hq
  refine g_if_eqB 16 8 rfl (by decide) dX1_behind_5 (fun c5 => ?_) (fun c5 => ?_)
  · refine g_bipush (v := -101) (by decide) 18 rfl dX1_behind_16 ?_
    exact g_iret hR rfl (Nat.le_of_ble_eq_true rfl) (Nat.le_of_ble_eq_true rfl) ⟨congrArg (fun p => some (Value.int p)) (show (-101 : Int32) = behindR (A 0) v from by simp [behindR, *]), rfl⟩ dX1_behind_18
  · obtain ⟨j, hj, rfl, hwj⟩ := isBx_in c5
    have hclj := nI_clamp (show j < 2 ^ 31 by omega)
    refine g_aload_n rfl ld_0 9 rfl dX1_behind_8 ?_
    refine g_iload_n rfl ld_1 10 rfl dX1_behind_9 ?_
    refine g_callV (As := [.int (nI j)]) (rest := []) (ci := 1) (v_X1_setBehind z.l D b hM (w0 := A 0) rfl j (by omega)) k_X1_setBehind q1801 hM.1 rfl rfl rfl rfl (Nat.le_of_ble_eq_true rfl) ⟨Nat.le_of_ble_eq_true rfl, Nat.le_of_ble_eq_true rfl⟩ 0 0 (Nat.le_of_ble_eq_true rfl) (Nat.le_of_ble_eq_true rfl) (Nat.le_of_ble_eq_true rfl) (Nat.le_of_ble_eq_true rfl) 13 rfl dX1_behind_10 (fun v σ1 hq => ?_)
    obtain ⟨rfl, rfl⟩ := hq
    refine g_goto 18 (by decide) dX1_behind_13 ?_
    exact g_iret hR rfl (Nat.le_of_ble_eq_true rfl) (Nat.le_of_ble_eq_true rfl) ⟨congrArg (fun p => some (Value.int p)) (show setR (A 0) j = behindR (A 0) (nI j) from by simp [behindR, *]), rfl⟩ dX1_behind_18
theorem v_X1_behind (l : Launch) (D : DD) (b : Nat) {h : Nat} {ad : Nat → Nat} {σ0 : Hp} {F : Nat → Int32} {A : Nat → Nat → Int32} {σ : Hp} (hM : MW D h ad σ0 F A σ) {w0 : Nat → Int32} (hw0 : A 0 = w0) (v : Int32) : CM l yX1_behind cX1_behind 2 (some .int) rX1_behind D b [.ref h, .int v] σ (PIx (behindR (w0) v) σ) := by
  subst hw0
  exact c_X1_behind l D b hM v
theorem sm_acc (s : Int32) (f : Nat → Int32) (k : Nat) : s + sm f k + f k = s + sm f (k + 1) := by rw [sm, Int32.add_assoc]
theorem sm_acc0 (s : Int32) (f : Nat → Int32) : s = s + sm f 0 := by rw [sm, Int32.add_zero]
def rX1_pairs : Room := { frames := 6, cells := 0, slots := 0, locals := 131 }
theorem k_X1_pairs : CV yX1_pairs cX1_pairs 5 (some .int) 0 := ⟨q1798, q1799, q81, q1800, by decide +kernel, by decide +kernel, by decide +kernel⟩
set_option maxHeartbeats 400000 in
theorem c_X1_pairs (l : Launch) (D : DD) (b : Nat) {h : Nat} {ad : Nat → Nat} {σ0 : Hp} {F : Nat → Int32} {A : Nat → Nat → Int32} {σ : Hp} (hM : MW D h ad σ0 F A σ) : CM l yX1_pairs cX1_pairs 5 (some .int) rX1_pairs D b [.ref h] σ (PIx (pairsR (A 0)) σ) := by
  refine CM_of [some (.ref h), none, none, none, none] RX1 (by decide) rfl (cat_all rfl) (Nat.le_of_ble_eq_true rfl) rfl ?_
  intro z hz hR hnm
  refine g_iconst (v := 0) (by decide) 1 rfl dX1_pairs_0 ?_
  refine g_istore_n rfl sa_1 2 rfl dX1_pairs_1 ?_
  refine g_iconst (v := 0) (by decide) 3 rfl dX1_pairs_2 ?_
  refine g_istore_n rfl sa_2 4 rfl dX1_pairs_3 ?_
  have lp4 : ∀ (fu i : Nat) (x1 : Int32), i ≤ 12 → 12 + 1 ≤ i + fu → (x1 = sm (fun i => bitsR (if isBx (A 0) (nI i) = true then setR (A 0) i else 0)) i) → G z cX1_pairs RX1 5 rX1_pairs D b σ 0 0 4 [some (.ref h), some (.int x1), some (.int (nI i)), none, none] [] := by
    intro fu
    induction fu with
    | zero => intros; omega
    | succ fu ih4 =>
      intro i x1 hi hf hx
      refine g_iload_n rfl ld_2 5 rfl dX1_pairs_4 ?_
      refine g_bipush (v := 12) (by decide) 7 rfl dX1_pairs_5 ?_
      refine g_icmp_geN (a := i) (c := 12) rfl (show (12 : Int32) = nI 12 from rfl) (by omega) (by omega) 59 10 rfl (by decide) dX1_pairs_7 (fun c7 => ?_) (fun c7 => ?_)
      · refine g_iload_n rfl ld_1 60 rfl dX1_pairs_59 ?_
        exact g_iret hR rfl (Nat.le_of_ble_eq_true rfl) (Nat.le_of_ble_eq_true rfl) ⟨congrArg (fun p => some (Value.int p)) (show x1 = pairsR (A 0) from by obtain rfl : i = 12 := (by omega); exact hx), rfl⟩ dX1_pairs_60
      · have j27 : ∀ y : Int32, y = (if isBx (A 0) (nI i) = true then setR (A 0) i else 0) → G z cX1_pairs RX1 5 rX1_pairs D b σ 0 0 27 [some (.ref h), some (.int x1), some (.int (nI i)), none, none] [.int y] := by
          intro y hy
          refine g_istore_n rfl sa_3 28 rfl dX1_pairs_27 ?_
          refine g_iconst (v := 0) (by decide) 29 rfl dX1_pairs_28 ?_
          refine g_istore sa_4 31 rfl dX1_pairs_29 ?_
          have lp31 : ∀ (fu k : Nat) (z1 : Int32), k ≤ 12 → 12 + 1 ≤ k + fu → (z1 = x1 + sm (fun k => (y >>> (nI k &&& 31)) &&& 1) k) → G z cX1_pairs RX1 5 rX1_pairs D b σ 0 0 31 [some (.ref h), some (.int z1), some (.int (nI i)), some (.int y), some (.int (nI k))] [] := by
            intro fu
            induction fu with
            | zero => intros; omega
            | succ fu ih31 =>
              intro k z1 hk hf hz2
              refine g_iload ld_4 33 rfl dX1_pairs_31 ?_
              refine g_bipush (v := 12) (by decide) 35 rfl dX1_pairs_33 ?_
              refine g_icmp_geN (a := k) (c := 12) rfl (show (12 : Int32) = nI 12 from rfl) (by omega) (by omega) 53 38 rfl (by decide) dX1_pairs_35 (fun c35 => ?_) (fun c35 => ?_)
              · refine g_iinc (v := nI (i + 1)) ld_2 (nI_1 _) sa_2 56 rfl dX1_pairs_53 ?_
                refine g_goto 4 (by decide) dX1_pairs_56 ?_
                refine G_lv dr_3 ?_
                refine G_lv dr_4 ?_
                exact ih4 (i + 1) z1 (by omega) (by omega) (by rw [hz2, hx, sm]; obtain rfl : k = 12 := (by omega); rw [hy]; rfl)
              · refine g_iload_n rfl ld_1 39 rfl dX1_pairs_38 ?_
                refine g_iload_n rfl ld_3 40 rfl dX1_pairs_39 ?_
                refine g_iload ld_4 42 rfl dX1_pairs_40 ?_
                refine g_ishr 43 rfl dX1_pairs_42 ?_
                refine g_iconst (v := 1) (by decide) 44 rfl dX1_pairs_43 ?_
                refine g_iand 45 rfl dX1_pairs_44 ?_
                refine g_iadd 46 rfl dX1_pairs_45 ?_
                refine g_istore_n rfl sa_1 47 rfl dX1_pairs_46 ?_
                refine g_iinc (v := nI (k + 1)) ld_4 (nI_1 _) sa_4 50 rfl dX1_pairs_47 ?_
                refine g_goto 31 (by decide) dX1_pairs_50 ?_
                exact ih31 (k + 1) (z1 + ((y >>> ((nI k) &&& 31)) &&& ((1 : Int32)))) (by omega) (by omega) (by rw [hz2]; exact sm_acc _ _ _)
          exact lp31 (12 + 1) 0 x1 (by omega) (by omega) (sm_acc0 _ _)
        refine g_aload_n rfl ld_0 11 rfl dX1_pairs_10 ?_
        refine g_iload_n rfl ld_2 12 rfl dX1_pairs_11 ?_
        refine g_callV (As := [.int (nI i)]) (rest := []) (ci := 1) (v_X1_isBox z.l D b hM (w0 := A 0) rfl (nI i)) k_X1_isBox q1759 hM.1 rfl rfl rfl rfl (Nat.le_of_ble_eq_true rfl) ⟨Nat.le_of_ble_eq_true rfl, Nat.le_of_ble_eq_true rfl⟩ 0 0 (Nat.le_of_ble_eq_true rfl) (Nat.le_of_ble_eq_true rfl) (Nat.le_of_ble_eq_true rfl) (Nat.le_of_ble_eq_true rfl) 15 rfl dX1_pairs_12 (fun v σ1 hq => ?_)
        obtain ⟨rfl, rfl⟩ := hq
        refine g_if_eqB 26 18 rfl (by decide) dX1_pairs_15 (fun c15 => ?_) (fun c15 => ?_)
        · refine g_iconst (v := 0) (by decide) 27 rfl dX1_pairs_26 ?_
          exact j27 ((0 : Int32)) (by simp [*])
        · refine g_aload_n rfl ld_0 19 rfl dX1_pairs_18 ?_
          refine g_iload_n rfl ld_2 20 rfl dX1_pairs_19 ?_
          refine g_callV (As := [.int (nI i)]) (rest := []) (ci := 1) (v_X1_setBehind z.l D b hM (w0 := A 0) rfl i (by omega)) k_X1_setBehind q1801 hM.1 rfl rfl rfl rfl (Nat.le_of_ble_eq_true rfl) ⟨Nat.le_of_ble_eq_true rfl, Nat.le_of_ble_eq_true rfl⟩ 0 0 (Nat.le_of_ble_eq_true rfl) (Nat.le_of_ble_eq_true rfl) (Nat.le_of_ble_eq_true rfl) (Nat.le_of_ble_eq_true rfl) 23 rfl dX1_pairs_20 (fun v σ1 hq => ?_)
          obtain ⟨rfl, rfl⟩ := hq
          refine g_goto 27 (by decide) dX1_pairs_23 ?_
          exact j27 (setR (A 0) i) (by simp [*])
  exact lp4 (12 + 1) 0 ((0 : Int32)) (by omega) (by omega) (rfl)
theorem v_X1_pairs (l : Launch) (D : DD) (b : Nat) {h : Nat} {ad : Nat → Nat} {σ0 : Hp} {F : Nat → Int32} {A : Nat → Nat → Int32} {σ : Hp} (hM : MW D h ad σ0 F A σ) {w0 : Nat → Int32} (hw0 : A 0 = w0) : CM l yX1_pairs cX1_pairs 5 (some .int) rX1_pairs D b [.ref h] σ (PIx (pairsR (w0)) σ) := by
  subst hw0
  exact c_X1_pairs l D b hM 
def compareR (w : Nat → Int32) (u v : Int32) : Int32 := if (isBx w u && isBx w v) = true then (if bbR w u.toNatClampNeg v.toNatClampNeg = true then -1 else if bbR w v.toNatClampNeg u.toNatClampNeg = true then 1 else 0) else -101
def rX1_compare : Room := { frames := 5, cells := 0, slots := 0, locals := 108 }
theorem k_X1_compare : CV yX1_compare cX1_compare 3 (some .int) 2 := ⟨q1844, q1845, q81, q1846, by decide +kernel, by decide +kernel, by decide +kernel⟩
set_option maxHeartbeats 400000 in
theorem c_X1_compare (l : Launch) (D : DD) (b : Nat) {h : Nat} {ad : Nat → Nat} {σ0 : Hp} {F : Nat → Int32} {A : Nat → Nat → Int32} {σ : Hp} (hM : MW D h ad σ0 F A σ) (u v : Int32) : CM l yX1_compare cX1_compare 3 (some .int) rX1_compare D b [.ref h, .int u, .int v] σ (PIx (compareR (A 0) u v) σ) := by
  refine CM_of [some (.ref h), some (.int u), some (.int v)] RX1 (by decide) rfl (cat_all rfl) (Nat.le_of_ble_eq_true rfl) rfl ?_
  intro z hz hR hnm
  refine g_aload_n rfl ld_0 1 rfl dX1_compare_0 ?_
  refine g_iload_n rfl ld_1 2 rfl dX1_compare_1 ?_
  refine g_callV (As := [.int u]) (rest := []) (ci := 1) (v_X1_isBox z.l D b hM (w0 := A 0) rfl u) k_X1_isBox q1759 hM.1 rfl rfl rfl rfl (Nat.le_of_ble_eq_true rfl) ⟨Nat.le_of_ble_eq_true rfl, Nat.le_of_ble_eq_true rfl⟩ 0 0 (Nat.le_of_ble_eq_true rfl) (Nat.le_of_ble_eq_true rfl) (Nat.le_of_ble_eq_true rfl) (Nat.le_of_ble_eq_true rfl) 5 rfl dX1_compare_2 (fun v σ1 hq => ?_)
  obtain ⟨rfl, rfl⟩ := hq
  refine g_if_eqB 16 8 rfl (by decide) dX1_compare_5 (fun c5 => ?_) (fun c5 => ?_)
  · refine g_bipush (v := -101) (by decide) 18 rfl dX1_compare_16 ?_
    exact g_iret hR rfl (Nat.le_of_ble_eq_true rfl) (Nat.le_of_ble_eq_true rfl) ⟨congrArg (fun p => some (Value.int p)) (show (-101 : Int32) = compareR (A 0) u v from by simp [compareR, *]), rfl⟩ dX1_compare_18
  · refine g_aload_n rfl ld_0 9 rfl dX1_compare_8 ?_
    refine g_iload_n rfl ld_2 10 rfl dX1_compare_9 ?_
    refine g_callV (As := [.int v]) (rest := []) (ci := 1) (v_X1_isBox z.l D b hM (w0 := A 0) rfl v) k_X1_isBox q1759 hM.1 rfl rfl rfl rfl (Nat.le_of_ble_eq_true rfl) ⟨Nat.le_of_ble_eq_true rfl, Nat.le_of_ble_eq_true rfl⟩ 0 0 (Nat.le_of_ble_eq_true rfl) (Nat.le_of_ble_eq_true rfl) (Nat.le_of_ble_eq_true rfl) (Nat.le_of_ble_eq_true rfl) 13 rfl dX1_compare_10 (fun v σ1 hq => ?_)
    obtain ⟨rfl, rfl⟩ := hq
    refine g_if_neB 19 16 rfl (by decide) dX1_compare_13 (fun c13 => ?_) (fun c13 => ?_)
    · obtain ⟨j, hj, rfl, hwj⟩ := isBx_in c5
      have hclj := nI_clamp (show j < 2 ^ 31 by omega)
      obtain ⟨q, hq, rfl, hwq⟩ := isBx_in c13
      have hclq := nI_clamp (show q < 2 ^ 31 by omega)
      refine g_aload_n rfl ld_0 20 rfl dX1_compare_19 ?_
      refine g_iload_n rfl ld_1 21 rfl dX1_compare_20 ?_
      refine g_iload_n rfl ld_2 22 rfl dX1_compare_21 ?_
      refine g_callV (As := [.int (nI j), .int (nI q)]) (rest := []) (ci := 1) (v_X1_isBoxBehind z.l D b hM (w0 := A 0) rfl j q (by omega) (by omega)) k_X1_isBoxBehind q1805 hM.1 rfl rfl rfl rfl (Nat.le_of_ble_eq_true rfl) ⟨Nat.le_of_ble_eq_true rfl, Nat.le_of_ble_eq_true rfl⟩ 0 0 (Nat.le_of_ble_eq_true rfl) (Nat.le_of_ble_eq_true rfl) (Nat.le_of_ble_eq_true rfl) (Nat.le_of_ble_eq_true rfl) 25 rfl dX1_compare_22 (fun v σ1 hq => ?_)
      obtain ⟨rfl, rfl⟩ := hq
      refine g_if_eqB 32 28 rfl (by decide) dX1_compare_25 (fun c25 => ?_) (fun c25 => ?_)
      · refine g_aload_n rfl ld_0 33 rfl dX1_compare_32 ?_
        refine g_iload_n rfl ld_2 34 rfl dX1_compare_33 ?_
        refine g_iload_n rfl ld_1 35 rfl dX1_compare_34 ?_
        refine g_callV (As := [.int (nI q), .int (nI j)]) (rest := []) (ci := 1) (v_X1_isBoxBehind z.l D b hM (w0 := A 0) rfl q j (by omega) (by omega)) k_X1_isBoxBehind q1805 hM.1 rfl rfl rfl rfl (Nat.le_of_ble_eq_true rfl) ⟨Nat.le_of_ble_eq_true rfl, Nat.le_of_ble_eq_true rfl⟩ 0 0 (Nat.le_of_ble_eq_true rfl) (Nat.le_of_ble_eq_true rfl) (Nat.le_of_ble_eq_true rfl) (Nat.le_of_ble_eq_true rfl) 38 rfl dX1_compare_35 (fun v σ1 hq => ?_)
        obtain ⟨rfl, rfl⟩ := hq
        refine g_if_eqB 45 41 rfl (by decide) dX1_compare_38 (fun c38 => ?_) (fun c38 => ?_)
        · refine g_iconst (v := 0) (by decide) 46 rfl dX1_compare_45 ?_
          exact g_iret hR rfl (Nat.le_of_ble_eq_true rfl) (Nat.le_of_ble_eq_true rfl) ⟨congrArg (fun p => some (Value.int p)) (show (0 : Int32) = compareR (A 0) (nI j) (nI q) from by simp [compareR, *]), rfl⟩ dX1_compare_46
        · refine g_iconst (v := 1) (by decide) 42 rfl dX1_compare_41 ?_
          refine g_goto 46 (by decide) dX1_compare_42 ?_
          exact g_iret hR rfl (Nat.le_of_ble_eq_true rfl) (Nat.le_of_ble_eq_true rfl) ⟨congrArg (fun p => some (Value.int p)) (show (1 : Int32) = compareR (A 0) (nI j) (nI q) from by simp [compareR, *]), rfl⟩ dX1_compare_46
      · refine g_iconst (v := -1) (by decide) 29 rfl dX1_compare_28 ?_
        refine g_goto 46 (by decide) dX1_compare_29 ?_
        exact g_iret hR rfl (Nat.le_of_ble_eq_true rfl) (Nat.le_of_ble_eq_true rfl) ⟨congrArg (fun p => some (Value.int p)) (show (-1 : Int32) = compareR (A 0) (nI j) (nI q) from by simp [compareR, *]), rfl⟩ dX1_compare_46
    · refine g_bipush (v := -101) (by decide) 18 rfl dX1_compare_16 ?_
      exact g_iret hR rfl (Nat.le_of_ble_eq_true rfl) (Nat.le_of_ble_eq_true rfl) ⟨congrArg (fun p => some (Value.int p)) (show (-101 : Int32) = compareR (A 0) u v from by simp [compareR, *]), rfl⟩ dX1_compare_18
theorem v_X1_compare (l : Launch) (D : DD) (b : Nat) {h : Nat} {ad : Nat → Nat} {σ0 : Hp} {F : Nat → Int32} {A : Nat → Nat → Int32} {σ : Hp} (hM : MW D h ad σ0 F A σ) {w0 : Nat → Int32} (hw0 : A 0 = w0) (u v : Int32) : CM l yX1_compare cX1_compare 3 (some .int) rX1_compare D b [.ref h, .int u, .int v] σ (PIx (compareR (w0) u v) σ) := by
  subst hw0
  exact c_X1_compare l D b hM u v
def coordR (w : Nat → Int32) (v q : Int32) : Int32 := if isBx w v = true then (if inR q 0 5 = true then w (7 * v.toNatClampNeg + q.toNatClampNeg) else -102) else -101
def rX1_coordinate : Room := { frames := 3, cells := 0, slots := 0, locals := 55 }
theorem k_X1_coordinate : CV yX1_coordinate cX1_coordinate 3 (some .int) 2 := ⟨q1836, q1837, q81, q1838, by decide +kernel, by decide +kernel, by decide +kernel⟩
set_option maxHeartbeats 400000 in
theorem c_X1_coordinate (l : Launch) (D : DD) (b : Nat) {h : Nat} {ad : Nat → Nat} {σ0 : Hp} {F : Nat → Int32} {A : Nat → Nat → Int32} {σ : Hp} (hM : MW D h ad σ0 F A σ) (v q : Int32) : CM l yX1_coordinate cX1_coordinate 3 (some .int) rX1_coordinate D b [.ref h, .int v, .int q] σ (PIx (coordR (A 0) v q) σ) := by
  refine CM_of [some (.ref h), some (.int v), some (.int q)] RX1 (by decide) rfl (cat_all rfl) (Nat.le_of_ble_eq_true rfl) rfl ?_
  intro z hz hR hnm
  refine g_aload_n rfl ld_0 1 rfl dX1_coordinate_0 ?_
  refine g_iload_n rfl ld_1 2 rfl dX1_coordinate_1 ?_
  refine g_callV (As := [.int v]) (rest := []) (ci := 1) (v_X1_isBox z.l D b hM (w0 := A 0) rfl v) k_X1_isBox q1759 hM.1 rfl rfl rfl rfl (Nat.le_of_ble_eq_true rfl) ⟨Nat.le_of_ble_eq_true rfl, Nat.le_of_ble_eq_true rfl⟩ 0 0 (Nat.le_of_ble_eq_true rfl) (Nat.le_of_ble_eq_true rfl) (Nat.le_of_ble_eq_true rfl) (Nat.le_of_ble_eq_true rfl) 5 rfl dX1_coordinate_2 (fun v σ1 hq => ?_)
  obtain ⟨rfl, rfl⟩ := hq
  refine g_if_neB 11 8 rfl (by decide) dX1_coordinate_5 (fun c5 => ?_) (fun c5 => ?_)
  · refine g_iload_n rfl ld_2 12 rfl dX1_coordinate_11 ?_
    refine g_iconst (v := 0) (by decide) 13 rfl dX1_coordinate_12 ?_
    refine g_iconst (v := 5) (by decide) 14 rfl dX1_coordinate_13 ?_
    refine g_callS (As := [.int q, .int ((0 : Int32)), .int ((5 : Int32))]) (rest := []) (c_X1_isIn z.l D b (σ := σ) q ((0 : Int32)) ((5 : Int32))) k_X1_isIn q1763 rfl rfl (Nat.le_of_ble_eq_true rfl) ⟨Nat.le_of_ble_eq_true rfl, Nat.le_of_ble_eq_true rfl⟩ 0 0 (Nat.le_of_ble_eq_true rfl) (Nat.le_of_ble_eq_true rfl) (Nat.le_of_ble_eq_true rfl) (Nat.le_of_ble_eq_true rfl) 17 rfl dX1_coordinate_14 (fun v σ1 hq => ?_)
    obtain ⟨rfl, rfl⟩ := hq
    refine g_if_eqB 29 20 rfl (by decide) dX1_coordinate_17 (fun c17 => ?_) (fun c17 => ?_)
    · refine g_bipush (v := -102) (by decide) 31 rfl dX1_coordinate_29 ?_
      exact g_iret hR rfl (Nat.le_of_ble_eq_true rfl) (Nat.le_of_ble_eq_true rfl) ⟨congrArg (fun p => some (Value.int p)) (show (-102 : Int32) = coordR (A 0) v q from by simp [coordR, *]), rfl⟩ dX1_coordinate_31
    · obtain ⟨j, hj, rfl, hwj⟩ := isBx_in c5
      have hclj := nI_clamp (show j < 2 ^ 31 by omega)
      obtain ⟨q, hq, rfl⟩ := inR_nat (N := 5) c17 (by decide)
      have hclq := nI_clamp (show q < 2 ^ 31 by omega)
      refine g_aload_n rfl ld_0 21 rfl dX1_coordinate_20 ?_
      refine g_iload_n rfl ld_1 22 rfl dX1_coordinate_21 ?_
      refine g_iload_n rfl ld_2 23 rfl dX1_coordinate_22 ?_
      refine g_callV (As := [.int (nI j), .int (nI q)]) (rest := []) (ci := 1) (v_X1_of z.l D b hM (w0 := A 0) rfl j q (by omega)) k_X1_of q1793 hM.1 rfl rfl rfl rfl (Nat.le_of_ble_eq_true rfl) ⟨Nat.le_of_ble_eq_true rfl, Nat.le_of_ble_eq_true rfl⟩ 0 0 (Nat.le_of_ble_eq_true rfl) (Nat.le_of_ble_eq_true rfl) (Nat.le_of_ble_eq_true rfl) (Nat.le_of_ble_eq_true rfl) 26 rfl dX1_coordinate_23 (fun v σ1 hq => ?_)
      obtain ⟨rfl, rfl⟩ := hq
      refine g_goto 31 (by decide) dX1_coordinate_26 ?_
      exact g_iret hR rfl (Nat.le_of_ble_eq_true rfl) (Nat.le_of_ble_eq_true rfl) ⟨congrArg (fun p => some (Value.int p)) (show (A 0) (7 * j + q) = coordR (A 0) (nI j) (nI q) from by simp [coordR, *]), rfl⟩ dX1_coordinate_31
  · refine g_bipush (v := -101) (by decide) 10 rfl dX1_coordinate_8 ?_
    exact g_iret hR rfl (Nat.le_of_ble_eq_true rfl) (Nat.le_of_ble_eq_true rfl) ⟨congrArg (fun p => some (Value.int p)) (show (-101 : Int32) = coordR (A 0) v q from by simp [coordR, *]), rfl⟩ dX1_coordinate_10
theorem v_X1_coordinate (l : Launch) (D : DD) (b : Nat) {h : Nat} {ad : Nat → Nat} {σ0 : Hp} {F : Nat → Int32} {A : Nat → Nat → Int32} {σ : Hp} (hM : MW D h ad σ0 F A σ) {w0 : Nat → Int32} (hw0 : A 0 = w0) (v q : Int32) : CM l yX1_coordinate cX1_coordinate 3 (some .int) rX1_coordinate D b [.ref h, .int v, .int q] σ (PIx (coordR (w0) v q) σ) := by
  subst hw0
  exact c_X1_coordinate l D b hM v q
def metM (F : Nat → Int32) (A : Nat → Nat → Int32) (a0 a1 a2 a3 a4 a5 : Int32) : MS :=
  (if possR (tr6 (A 7) a0 a1 a2 a3 a4 a5) = true then metR (tr6 (A 7) a0 a1 a2 a3 a4 a5) (A 0) (-1) else -102, F, trA A a0 a1 a2 a3 a4 a5)
def rX1_met : Room := { frames := 4, cells := 0, slots := 0, locals := 78 }
theorem k_X1_met : CV yX1_met cX1_met 7 (some .int) 6 := ⟨q1840, q1841, q81, q1842, by decide +kernel, by decide +kernel, by decide +kernel⟩
set_option maxHeartbeats 400000 in
theorem c_X1_met (l : Launch) (D : DD) (b : Nat) {h : Nat} {ad : Nat → Nat} {σ0 : Hp} {F : Nat → Int32} {A : Nat → Nat → Int32} {σ : Hp} (hM : MW D h ad σ0 F A σ) (a0 a1 a2 a3 a4 a5 : Int32) : CM l yX1_met cX1_met 7 (some .int) rX1_met D b [.ref h, .int a0, .int a1, .int a2, .int a3, .int a4, .int a5] σ (PI (fun r σ' => r = (metM F A a0 a1 a2 a3 a4 a5).1 ∧ MW D h ad σ0 (metM F A a0 a1 a2 a3 a4 a5).2.1 (metM F A a0 a1 a2 a3 a4 a5).2.2 σ')) := by
  refine CM_of [some (.ref h), some (.int a0), some (.int a1), some (.int a2), some (.int a3), some (.int a4), some (.int a5)] RX1 (by decide) rfl (cat_all rfl) (Nat.le_of_ble_eq_true rfl) rfl ?_
  intro z hz hR hnm
  refine g_aload_n rfl ld_0 1 rfl dX1_met_0 ?_
  refine g_iload_n rfl ld_1 2 rfl dX1_met_1 ?_
  refine g_iload_n rfl ld_2 3 rfl dX1_met_2 ?_
  refine g_iload_n rfl ld_3 4 rfl dX1_met_3 ?_
  refine g_iload ld_4 6 rfl dX1_met_4 ?_
  refine g_iload ld_5 8 rfl dX1_met_6 ?_
  refine g_iload ld_6 10 rfl dX1_met_8 ?_
  refine g_callV (As := [.int a0, .int a1, .int a2, .int a3, .int a4, .int a5]) (rest := []) (ci := 1) (v_X1_isTrial z.l D b hM (w7 := A 7) rfl a0 a1 a2 a3 a4 a5) k_X1_isTrial q1751 hM.1 rfl rfl rfl rfl (Nat.le_of_ble_eq_true rfl) ⟨Nat.le_of_ble_eq_true rfl, Nat.le_of_ble_eq_true rfl⟩ 0 0 (Nat.le_of_ble_eq_true rfl) (Nat.le_of_ble_eq_true rfl) (Nat.le_of_ble_eq_true rfl) (Nat.le_of_ble_eq_true rfl) 13 rfl dX1_met_10 (fun v σ1 hq => ?_)
  obtain ⟨_, rfl, rfl, hM⟩ := hq
  revert σ1
  intro σ hM
  refine g_if_eqB 24 16 rfl (by decide) dX1_met_13 (fun c13 => ?_) (fun c13 => ?_)
  · refine g_bipush (v := -102) (by decide) 26 rfl dX1_met_24 ?_
    have e9 : metM F A a0 a1 a2 a3 a4 a5 = ((-102 : Int32), F, uA A 7 (tr6 (A 7) a0 a1 a2 a3 a4 a5)) := by simp [metM, trA, *]
    exact g_iret hR rfl (Nat.le_of_ble_eq_true rfl) (Nat.le_of_ble_eq_true rfl) ⟨_, rfl, by rw [e9], by rw [e9]; exact hM⟩ dX1_met_26
  · refine g_aload_n rfl ld_0 17 rfl dX1_met_16 ?_
    refine g_iconst (v := -1) (by decide) 18 rfl dX1_met_17 ?_
    refine g_callV (As := [.int ((-1 : Int32))]) (rest := []) (ci := 1) (v_X1_metByTrial z.l D b hM (w0 := A 0) rfl (w7 := tr6 (A 7) a0 a1 a2 a3 a4 a5) rfl ((-1 : Int32))) k_X1_metByTrial q1755 hM.1 rfl rfl rfl rfl (Nat.le_of_ble_eq_true rfl) ⟨Nat.le_of_ble_eq_true rfl, Nat.le_of_ble_eq_true rfl⟩ 0 0 (Nat.le_of_ble_eq_true rfl) (Nat.le_of_ble_eq_true rfl) (Nat.le_of_ble_eq_true rfl) (Nat.le_of_ble_eq_true rfl) 21 rfl dX1_met_18 (fun v σ1 hq => ?_)
    obtain ⟨rfl, rfl⟩ := hq
    refine g_goto 26 (by decide) dX1_met_21 ?_
    have e9 : metM F A a0 a1 a2 a3 a4 a5 = (metR (tr6 (A 7) a0 a1 a2 a3 a4 a5) (A 0) ((-1 : Int32)), F, uA A 7 (tr6 (A 7) a0 a1 a2 a3 a4 a5)) := by simp [metM, trA, *]
    exact g_iret hR rfl (Nat.le_of_ble_eq_true rfl) (Nat.le_of_ble_eq_true rfl) ⟨_, rfl, by rw [e9], by rw [e9]; exact hM⟩ dX1_met_26
def ldP (q p : Nat → Int32) (s i : Nat) : Nat → Int32 := fun x => if x < i then p (s + x) else q x
theorem ldP_0 (q p : Nat → Int32) (s : Nat) : ldP q p s 0 = q := by funext x; simp [ldP]
theorem ldP_s (q p : Nat → Int32) (s i : Nat) : ldP q p s (i + 1) = upd (ldP q p s i) i (p (s + i)) := by
  funext x
  simp only [ldP, upd]
  by_cases h : x = i
  · subst h; simp
  · by_cases h2 : x < i
    · simp [h, h2, show x < i + 1 by omega]
    · simp [h, h2, show ¬ x < i + 1 by omega]
def undoM (F : Nat → Int32) (A : Nat → Nat → Int32) (c : Nat) : MS :=
  if c = 0 then (-105, F, A) else (nI (c - 1), upd F 2 (nI (c - 1)), uA A 0 (ldP (A 0) (A 1) (84 * (c - 1)) 84))
def rX1_undo : Room := { frames := 1, cells := 0, slots := 0, locals := 12 }
theorem k_X1_undo : CV yX1_undo cX1_undo 2 (some .int) 0 := ⟨q1831, q1832, q81, q1833, by decide +kernel, by decide +kernel, by decide +kernel⟩
set_option maxHeartbeats 400000 in
theorem c_X1_undo (l : Launch) (D : DD) (b : Nat) {h : Nat} {ad : Nat → Nat} {σ0 : Hp} {F : Nat → Int32} {A : Nat → Nat → Int32} {σ : Hp} (hM : MW D h ad σ0 F A σ) (c : Nat) (hc : F 2 = nI c) (hc8 : c ≤ 8) : CM l yX1_undo cX1_undo 2 (some .int) rX1_undo D b [.ref h] σ (PI (fun r σ' => r = (undoM F A c).1 ∧ MW D h ad σ0 (undoM F A c).2.1 (undoM F A c).2.2 σ')) := by
  refine CM_of [some (.ref h), none] RX1 (by decide) rfl (cat_all rfl) (Nat.le_of_ble_eq_true rfl) rfl ?_
  intro z hz hR hnm
  refine g_aload_n rfl ld_0 1 rfl dX1_undo_0 ?_
  refine g_getf (kf := 2) (v := .int (nI c)) hM.1 (by rw [← hc]; rfl) rfl in_X1 (by decide) q1663 rfl 4 rfl dX1_undo_1 ?_
  refine g_if_neN (a := c) rfl (by omega) 10 7 rfl (by decide) dX1_undo_4 (fun c4 => ?_) (fun c4 => ?_)
  · refine g_aload_n rfl ld_0 11 rfl dX1_undo_10 ?_
    refine g_dup rfl 12 rfl dX1_undo_11 ?_
    refine g_getf (kf := 2) (v := .int (nI c)) hM.1 (by rw [← hc]; rfl) rfl in_X1 (by decide) q1663 rfl 15 rfl dX1_undo_12 ?_
    refine g_iconst (v := 1) (by decide) 16 rfl dX1_undo_15 ?_
    refine g_isubN (a := c) (c := 1) rfl (show (1 : Int32) = nI 1 from rfl) (by omega) 17 rfl dX1_undo_16 ?_
    refine gm_put (v := nI (c - 1)) 2 (by decide) hM q1663 20 rfl dX1_undo_17 (fun σ hM => ?_)
    refine g_iconst (v := 0) (by decide) 21 rfl dX1_undo_20 ?_
    refine g_istore_n rfl sa_1 22 rfl dX1_undo_21 ?_
    have lp22 : ∀ (fu i : Nat) (σ : Hp), i ≤ 84 → 84 + 1 ≤ i + fu → MW D h ad σ0 (upd F 2 (nI (c - 1))) (uA A 0 (ldP (A 0) (A 1) (84 * (c - 1)) i)) σ → G z cX1_undo RX1 2 rX1_undo D b σ 0 0 22 [some (.ref h), some (.int (nI i))] [] := by
      intro fu
      induction fu with
      | zero => intros; omega
      | succ fu ih22 =>
        intro i σ hi hf  hM
        refine g_iload_n rfl ld_1 23 rfl dX1_undo_22 ?_
        refine g_bipush (v := 84) (by decide) 25 rfl dX1_undo_23 ?_
        refine g_icmp_geN (a := i) (c := 84) rfl (show (84 : Int32) = nI 84 from rfl) (by omega) (by omega) 54 28 rfl (by decide) dX1_undo_25 (fun c25 => ?_) (fun c25 => ?_)
        · obtain rfl : i = 84 := by omega
          refine g_aload_n rfl ld_0 55 rfl dX1_undo_54 ?_
          refine g_getf (kf := 2) (v := .int (nI (c - 1))) hM.1 rfl rfl in_X1 (by decide) q1663 rfl 58 rfl dX1_undo_55 ?_
          have e9 : undoM F A c = (nI (c - 1), upd F 2 (nI (c - 1)), uA A 0 (ldP (A 0) (A 1) (84 * (c - 1)) 84)) := by simp [undoM, *]
          exact g_iret hR rfl (Nat.le_of_ble_eq_true rfl) (Nat.le_of_ble_eq_true rfl) ⟨_, rfl, by rw [e9], by rw [e9]; exact hM⟩ dX1_undo_58
        · refine g_aload_n rfl ld_0 29 rfl dX1_undo_28 ?_
          refine g_getf (kf := 0) (v := .ref (ad 0)) hM.1 rfl rfl in_X1 (by decide) q1661 rfl 32 rfl dX1_undo_29 ?_
          refine g_iload_n rfl ld_1 33 rfl dX1_undo_32 ?_
          refine g_aload_n rfl ld_0 34 rfl dX1_undo_33 ?_
          refine g_getf (kf := 1) (v := .ref (ad 1)) hM.1 rfl rfl in_X1 (by decide) q1662 rfl 37 rfl dX1_undo_34 ?_
          refine g_bipush (v := 84) (by decide) 39 rfl dX1_undo_37 ?_
          refine g_aload_n rfl ld_0 40 rfl dX1_undo_39 ?_
          refine g_getf (kf := 2) (v := .int (nI (c - 1))) hM.1 rfl rfl in_X1 (by decide) q1663 rfl 43 rfl dX1_undo_40 ?_
          refine g_imulN (a := 84) (c := (c - 1)) (show (84 : Int32) = nI 84 from rfl) rfl 44 rfl dX1_undo_43 ?_
          refine g_iload_n rfl ld_1 45 rfl dX1_undo_44 ?_
          refine g_iaddN (a := (84 * (c - 1))) (c := i) rfl rfl 46 rfl dX1_undo_45 ?_
          refine g_iald (j := ((84 * (c - 1)) + i)) (f := A 1) hM.a1 rfl (by omega) (by decide) 47 rfl dX1_undo_46 ?_
          refine gm_astU (j := i) 0 (by decide) (by decide) hM rfl (by simp only [msz]; omega) 48 rfl dX1_undo_47 (fun σ hM => ?_)
          refine g_iinc (v := nI (i + 1)) ld_1 (nI_1 _) sa_1 51 rfl dX1_undo_48 ?_
          refine g_goto 22 (by decide) dX1_undo_51 ?_
          have hM : MW D h ad σ0 (upd F 2 (nI (c - 1))) (uA A 0 (ldP (A 0) (A 1) (84 * (c - 1)) ((i + 1)))) σ := by
            have e2 : uA A 0 (ldP (A 0) (A 1) (84 * (c - 1)) ((i + 1))) = uA A 0 (upd (ldP (A 0) (A 1) (84 * (c - 1)) i) i ((A 1) (((84 * (c - 1)) + i)))) := by rw [ldP_s]
            rw [e2]; exact hM
          exact ih22 (i + 1) σ (by omega) (by omega)  hM
    have hM : MW D h ad σ0 (upd F 2 (nI (c - 1))) (uA A 0 (ldP (A 0) (A 1) (84 * (c - 1)) 0)) σ := by
      have e2 : uA A 0 (ldP (A 0) (A 1) (84 * (c - 1)) 0) = A := by rw [ldP_0, uA_self]
      rw [e2]; exact hM
    exact lp22 (84 + 1) 0 σ (by omega) (by omega)  hM
  · refine g_bipush (v := -105) (by decide) 9 rfl dX1_undo_7 ?_
    have e9 : undoM F A c = ((-105 : Int32), F, A) := by simp [undoM, *]
    exact g_iret hR rfl (Nat.le_of_ble_eq_true rfl) (Nat.le_of_ble_eq_true rfl) ⟨_, rfl, by rw [e9], by rw [e9]; exact hM⟩ dX1_undo_9
