/-! THE REFERENCE, part 17: text -/
set_option maxRecDepth 100000
def writeM (F : Nat → Int32) (A : Nat → Nat → Int32) (ln : Nat) (c : Int32) : MS :=
  if inR c 32 126 = false then (-102, F, A) else if ln = 240 then (-104, F, A) else (nI (ln + 1), upd F 6 (nI (ln + 1)), uA A 5 (upd (A 5) ln c))
def dgR (t : Nat → Int32) (ln a : Nat) : Bool := decide (a < ln) && inR (t a) 48 57
def flR (w p : Int32) : Int32 := if w = -106 then p else w
def vlR (t : Nat → Int32) (ln a : Nat) : Int32 × Nat := if dgR t ln (a + 1) = true then (10 * (t a - 48) + t (a + 1) - 48, a + 2) else (t a - 48, a + 1)
def badR (v : Int32) (rd : Nat → Int32) (m k : Nat) : Bool := decide (32 < v) || (decide (2 < k) && !decide (rd (7 * m + k - 3) < v))
abbrev RS : Type := Nat × Int32 × (Nat → Int32)
def rcO (t : Nat → Int32) (ln m k : Nat) (s : RS) : RS :=
  if dgR t ln s.1 = true then ((vlR t ln s.1).2, if badR (vlR t ln s.1).1 s.2.2 m k = true then flR s.2.1 (nI s.1) else s.2.1, upd s.2.2 (7 * m + k) (vlR t ln s.1).1)
  else (s.1, flR s.2.1 (nI s.1), s.2.2)
theorem dg_lt {t : Nat → Int32} {ln a : Nat} (h : dgR t ln a = true) : a < ln := by
  simp only [dgR, Bool.and_eq_true, decide_eq_true_eq] at h
  exact h.1
theorem vl_le {t : Nat → Int32} {ln a : Nat} (h : dgR t ln a = true) : (vlR t ln a).2 ≤ ln ∧ a < (vlR t ln a).2 := by
  have h1 := dg_lt h
  unfold vlR
  split
  · rename_i h2
    have := dg_lt h2
    exact ⟨this, by show a < a + 2; omega⟩
  · exact ⟨h1, Nat.lt_succ_self a⟩
theorem rc_le {t : Nat → Int32} {ln m k : Nat} {s : RS} (h : s.1 ≤ ln) : (rcO t ln m k s).1 ≤ ln ∧ s.1 ≤ (rcO t ln m k s).1 := by
  unfold rcO
  split
  · rename_i h2
    have := vl_le h2
    exact ⟨this.1, Nat.le_of_lt this.2⟩
  · exact ⟨h, Nat.le_refl _⟩
def rX1_write : Room := { frames := 2, cells := 0, slots := 0, locals := 34 }
theorem k_X1_write : CV yX1_write cX1_write 2 (some .int) 1 := ⟨q1980, q1981, q81, q1982, by decide +kernel, by decide +kernel, by decide +kernel⟩
set_option maxHeartbeats 400000 in
theorem c_X1_write (l : Launch) (D : DD) (b : Nat) {h : Nat} {ad : Nat → Nat} {σ0 : Hp} {F : Nat → Int32} {A : Nat → Nat → Int32} {σ : Hp} (hM : MW D h ad σ0 F A σ) (ln : Nat) (hln : F 6 = nI ln) (hln240 : ln ≤ 240) (c : Int32) : CM l yX1_write cX1_write 2 (some .int) rX1_write D b [.ref h, .int c] σ (PI (fun r σ' => r = (writeM F A ln c).1 ∧ MW D h ad σ0 (writeM F A ln c).2.1 (writeM F A ln c).2.2 σ')) := by
  refine CM_of [some (.ref h), some (.int c)] RX1 (by decide) rfl (cat_all rfl) (Nat.le_of_ble_eq_true rfl) rfl ?_
  intro z hz hR hnm
  refine g_iload_n rfl ld_1 1 rfl dX1_write_0 ?_
  refine g_bipush (v := 32) (by decide) 3 rfl dX1_write_1 ?_
  refine g_bipush (v := 126) (by decide) 5 rfl dX1_write_3 ?_
  refine g_callS (As := [.int c, .int ((32 : Int32)), .int ((126 : Int32))]) (rest := []) (c_X1_isIn z.l D b (σ := σ) c ((32 : Int32)) ((126 : Int32))) k_X1_isIn q1763 rfl rfl (Nat.le_of_ble_eq_true rfl) ⟨Nat.le_of_ble_eq_true rfl, Nat.le_of_ble_eq_true rfl⟩ 0 0 (Nat.le_of_ble_eq_true rfl) (Nat.le_of_ble_eq_true rfl) (Nat.le_of_ble_eq_true rfl) (Nat.le_of_ble_eq_true rfl) 8 rfl dX1_write_5 (fun v σ1 hq => ?_)
  obtain ⟨rfl, rfl⟩ := hq
  refine g_if_neB 14 11 rfl (by decide) dX1_write_8 (fun c8 => ?_) (fun c8 => ?_)
  · refine g_aload_n rfl ld_0 15 rfl dX1_write_14 ?_
    refine g_getf (kf := 6) (v := .int (nI ln)) hM.1 (by rw [← hln]; rfl) rfl in_X1 (by decide) q1667 rfl 18 rfl dX1_write_15 ?_
    refine g_sipush (v := 240) (by decide) 21 rfl dX1_write_18 ?_
    refine g_icmp_neN (a := ln) (c := 240) rfl (show (240 : Int32) = nI 240 from rfl) (by omega) (by omega) 27 24 rfl (by decide) dX1_write_21 (fun c21 => ?_) (fun c21 => ?_)
    · refine g_aload_n rfl ld_0 28 rfl dX1_write_27 ?_
      refine g_getf (kf := 5) (v := .ref (ad 5)) hM.1 rfl rfl in_X1 (by decide) q1666 rfl 31 rfl dX1_write_28 ?_
      refine g_aload_n rfl ld_0 32 rfl dX1_write_31 ?_
      refine g_getf (kf := 6) (v := .int (nI ln)) hM.1 (by rw [← hln]; rfl) rfl in_X1 (by decide) q1667 rfl 35 rfl dX1_write_32 ?_
      refine g_iload_n rfl ld_1 36 rfl dX1_write_35 ?_
      refine gm_ast (j := ln) 5 (by decide) (by decide) hM rfl (by simp only [msz]; omega) 37 rfl dX1_write_36 (fun σ hM => ?_)
      refine g_aload_n rfl ld_0 38 rfl dX1_write_37 ?_
      refine g_dup rfl 39 rfl dX1_write_38 ?_
      refine g_getf (kf := 6) (v := .int (nI ln)) hM.1 (by rw [← hln]; rfl) rfl in_X1 (by decide) q1667 rfl 42 rfl dX1_write_39 ?_
      refine g_iconst (v := 1) (by decide) 43 rfl dX1_write_42 ?_
      refine g_iaddN (a := ln) (c := 1) rfl (show (1 : Int32) = nI 1 from rfl) 44 rfl dX1_write_43 ?_
      refine gm_put (v := nI (ln + 1)) 6 (by decide) hM q1667 47 rfl dX1_write_44 (fun σ hM => ?_)
      refine g_aload_n rfl ld_0 48 rfl dX1_write_47 ?_
      have g9 : (upd F 6 (nI (ln + 1))) 6 = nI (ln + 1) := (upd_s _ _ _)
      refine g_getf (kf := 6) (v := .int (nI (ln + 1))) hM.1 (mfs_get (by decide) g9) rfl in_X1 (by decide) q1667 rfl 51 rfl dX1_write_48 ?_
      have e9 : writeM F A ln c = (nI (ln + 1), upd F 6 (nI (ln + 1)), uA A 5 (upd (A 5) ln c)) := by rw [writeM, if_neg (by simp [c8]), if_neg c21]
      exact g_iret hR rfl (Nat.le_of_ble_eq_true rfl) (Nat.le_of_ble_eq_true rfl) ⟨_, rfl, by rw [e9], by rw [e9]; exact hM⟩ dX1_write_51
    · refine g_bipush (v := -104) (by decide) 26 rfl dX1_write_24 ?_
      have e9 : writeM F A ln c = ((-104 : Int32), F, A) := by rw [writeM, if_neg (by simp [c8]), if_pos c21]
      exact g_iret hR rfl (Nat.le_of_ble_eq_true rfl) (Nat.le_of_ble_eq_true rfl) ⟨_, rfl, by rw [e9], by rw [e9]; exact hM⟩ dX1_write_26
  · refine g_bipush (v := -102) (by decide) 13 rfl dX1_write_11 ?_
    have e9 : writeM F A ln c = ((-102 : Int32), F, A) := by rw [writeM, if_pos c8]
    exact g_iret hR rfl (Nat.le_of_ble_eq_true rfl) (Nat.le_of_ble_eq_true rfl) ⟨_, rfl, by rw [e9], by rw [e9]; exact hM⟩ dX1_write_13
def rX1_wipe : Room := { frames := 1, cells := 0, slots := 0, locals := 12 }
theorem k_X1_wipe : CV yX1_wipe cX1_wipe 2 (some .int) 0 := ⟨q1984, q1985, q81, q1986, by decide +kernel, by decide +kernel, by decide +kernel⟩
set_option maxHeartbeats 400000 in
theorem c_X1_wipe (l : Launch) (D : DD) (b : Nat) {h : Nat} {ad : Nat → Nat} {σ0 : Hp} {F : Nat → Int32} {A : Nat → Nat → Int32} {σ : Hp} (hM : MW D h ad σ0 F A σ) : CM l yX1_wipe cX1_wipe 2 (some .int) rX1_wipe D b [.ref h] σ (PI (fun r σ' => r = F 6 ∧ MW D h ad σ0 (upd F 6 0) A σ')) := by
  refine CM_of [some (.ref h), none] RX1 (by decide) rfl (cat_all rfl) (Nat.le_of_ble_eq_true rfl) rfl ?_
  intro z hz hR hnm
  refine g_aload_n rfl ld_0 1 rfl dX1_wipe_0 ?_
  refine g_getf (kf := 6) (v := .int (F 6)) hM.1 rfl rfl in_X1 (by decide) q1667 rfl 4 rfl dX1_wipe_1 ?_
  refine g_istore_n rfl sa_1 5 rfl dX1_wipe_4 ?_
  refine g_aload_n rfl ld_0 6 rfl dX1_wipe_5 ?_
  refine g_iconst (v := 0) (by decide) 7 rfl dX1_wipe_6 ?_
  refine gm_put (v := (0 : Int32)) 6 (by decide) hM q1667 10 rfl dX1_wipe_7 (fun σ hM => ?_)
  refine g_iload_n rfl ld_1 11 rfl dX1_wipe_10 ?_
  exact g_iret hR rfl (Nat.le_of_ble_eq_true rfl) (Nat.le_of_ble_eq_true rfl) ⟨_, rfl, rfl, hM⟩ dX1_wipe_11
def rX1_isDigit : Room := { frames := 2, cells := 0, slots := 0, locals := 34 }
theorem k_X1_isDigit : CV yX1_isDigit cX1_isDigit 1 (some .boolean) 0 := ⟨q2005, qs73, q81, q2006, by decide +kernel, by decide +kernel, by decide +kernel⟩
set_option maxHeartbeats 400000 in
theorem c_X1_isDigit (l : Launch) (D : DD) (b : Nat) {h : Nat} {ad : Nat → Nat} {σ0 : Hp} {F : Nat → Int32} {A : Nat → Nat → Int32} {σ : Hp} (hM : MW D h ad σ0 F A σ) (ln : Nat) (hln : F 6 = nI ln) (hln240 : ln ≤ 240) (a : Nat) (ha : F 24 = nI a) (hal : a ≤ 300) : CM l yX1_isDigit cX1_isDigit 1 (some .boolean) rX1_isDigit D b [.ref h] σ (PIx (bI (dgR (A 5) ln a)) σ) := by
  refine CM_of [some (.ref h)] RX1 (by decide) rfl (cat_all rfl) (Nat.le_of_ble_eq_true rfl) rfl ?_
  intro z hz hR hnm
  refine g_aload_n rfl ld_0 1 rfl dX1_isDigit_0 ?_
  refine g_getf (kf := 24) (v := .int (nI a)) hM.1 (by rw [← ha]; rfl) rfl in_X1 (by decide) q1685 rfl 4 rfl dX1_isDigit_1 ?_
  refine g_aload_n rfl ld_0 5 rfl dX1_isDigit_4 ?_
  refine g_getf (kf := 6) (v := .int (nI ln)) hM.1 (by rw [← hln]; rfl) rfl in_X1 (by decide) q1667 rfl 8 rfl dX1_isDigit_5 ?_
  refine g_icmp_geN (a := a) (c := ln) rfl rfl (by omega) (by omega) 34 11 rfl (by decide) dX1_isDigit_8 (fun c8 => ?_) (fun c8 => ?_)
  · refine g_iconst (v := 0) (by decide) 35 rfl dX1_isDigit_34 ?_
    exact g_iret hR nz_0 (Nat.le_of_ble_eq_true rfl) (Nat.le_of_ble_eq_true rfl) ⟨congrArg (fun p => some (Value.int (bI p))) (show false = dgR (A 5) ln a from by rw [dgR]; first | (rw [decide_eq_false (by omega)]; rfl) | (rw [decide_eq_true (by omega), c27]; rfl)), rfl⟩ dX1_isDigit_35
  · refine g_aload_n rfl ld_0 12 rfl dX1_isDigit_11 ?_
    refine g_getf (kf := 5) (v := .ref (ad 5)) hM.1 rfl rfl in_X1 (by decide) q1666 rfl 15 rfl dX1_isDigit_12 ?_
    refine g_aload_n rfl ld_0 16 rfl dX1_isDigit_15 ?_
    refine g_getf (kf := 24) (v := .int (nI a)) hM.1 (by rw [← ha]; rfl) rfl in_X1 (by decide) q1685 rfl 19 rfl dX1_isDigit_16 ?_
    refine g_iald (j := a) (f := A 5) hM.a5 rfl (by omega) (by decide) 20 rfl dX1_isDigit_19 ?_
    refine g_bipush (v := 48) (by decide) 22 rfl dX1_isDigit_20 ?_
    refine g_bipush (v := 57) (by decide) 24 rfl dX1_isDigit_22 ?_
    refine g_callS (As := [.int ((A 5) a), .int ((48 : Int32)), .int ((57 : Int32))]) (rest := []) (c_X1_isIn z.l D b (σ := σ) ((A 5) a) ((48 : Int32)) ((57 : Int32))) k_X1_isIn q1763 rfl rfl (Nat.le_of_ble_eq_true rfl) ⟨Nat.le_of_ble_eq_true rfl, Nat.le_of_ble_eq_true rfl⟩ 0 0 (Nat.le_of_ble_eq_true rfl) (Nat.le_of_ble_eq_true rfl) (Nat.le_of_ble_eq_true rfl) (Nat.le_of_ble_eq_true rfl) 27 rfl dX1_isDigit_24 (fun v σ1 hq => ?_)
    obtain ⟨rfl, rfl⟩ := hq
    refine g_if_eqB 34 30 rfl (by decide) dX1_isDigit_27 (fun c27 => ?_) (fun c27 => ?_)
    · refine g_iconst (v := 0) (by decide) 35 rfl dX1_isDigit_34 ?_
      exact g_iret hR nz_0 (Nat.le_of_ble_eq_true rfl) (Nat.le_of_ble_eq_true rfl) ⟨congrArg (fun p => some (Value.int (bI p))) (show false = dgR (A 5) ln a from by rw [dgR]; first | (rw [decide_eq_false (by omega)]; rfl) | (rw [decide_eq_true (by omega), c27]; rfl)), rfl⟩ dX1_isDigit_35
    · refine g_iconst (v := 1) (by decide) 31 rfl dX1_isDigit_30 ?_
      refine g_goto 35 (by decide) dX1_isDigit_31 ?_
      exact g_iret hR nz_1 (Nat.le_of_ble_eq_true rfl) (Nat.le_of_ble_eq_true rfl) ⟨congrArg (fun p => some (Value.int (bI p))) (show true = dgR (A 5) ln a from by rw [dgR]; first | (rw [decide_eq_false (by omega)]; rfl) | (rw [decide_eq_true (by omega), c27]; rfl)), rfl⟩ dX1_isDigit_35
theorem v_X1_isDigit (l : Launch) (D : DD) (b : Nat) {h : Nat} {ad : Nat → Nat} {σ0 : Hp} {F : Nat → Int32} {A : Nat → Nat → Int32} {σ : Hp} (hM : MW D h ad σ0 F A σ) {w5 : Nat → Int32} (hw5 : A 5 = w5) (ln : Nat) (hln : F 6 = nI ln) (hln240 : ln ≤ 240) (a : Nat) (ha : F 24 = nI a) (hal : a ≤ 300) : CM l yX1_isDigit cX1_isDigit 1 (some .boolean) rX1_isDigit D b [.ref h] σ (PIx (bI (dgR (w5) ln a)) σ) := by
  subst hw5
  exact c_X1_isDigit l D b hM ln hln hln240 a ha hal
def rX1_fails : Room := { frames := 1, cells := 0, slots := 0, locals := 12 }
theorem k_X1_fails : CV yX1_fails cX1_fails 2 none 1 := ⟨q1993, qs70, q81, q1994, by decide +kernel, by decide +kernel, by decide +kernel⟩
set_option maxHeartbeats 400000 in
theorem c_X1_fails (l : Launch) (D : DD) (b : Nat) {h : Nat} {ad : Nat → Nat} {σ0 : Hp} {F : Nat → Int32} {A : Nat → Nat → Int32} {σ : Hp} (hM : MW D h ad σ0 F A σ) (p : Int32) : CM l yX1_fails cX1_fails 2 none rX1_fails D b [.ref h, .int p] σ (PV (fun σ' => MW D h ad σ0 (upd F 25 (flR (F 25) p)) A σ')) := by
  refine CM_of [some (.ref h), some (.int p)] RX1 (by decide) rfl (cat_all rfl) (Nat.le_of_ble_eq_true rfl) rfl ?_
  intro z hz hR hnm
  refine g_aload_n rfl ld_0 1 rfl dX1_fails_0 ?_
  have j18 : ∀ y : Int32, y = flR (F 25) p → G z cX1_fails RX1 2 rX1_fails D b σ 0 0 18 [some (.ref h), some (.int p)] [.int y, .ref h] := by
    intro y hy
    refine gm_put (v := y) 25 (by decide) hM q1686 21 rfl dX1_fails_18 (fun σ hM => ?_)
    subst hy
    exact g_vret hR (Nat.le_of_ble_eq_true rfl) (Nat.le_of_ble_eq_true rfl) ⟨rfl, hM⟩ dX1_fails_21
  refine g_aload_n rfl ld_0 2 rfl dX1_fails_1 ?_
  refine g_getf (kf := 25) (v := .int (F 25)) hM.1 rfl rfl in_X1 (by decide) q1686 rfl 5 rfl dX1_fails_2 ?_
  refine g_bipush (v := -106) (by decide) 7 rfl dX1_fails_5 ?_
  refine g_icmp_ne 14 10 rfl (by decide) dX1_fails_7 (fun c7 => ?_) (fun c7 => ?_)
  · refine g_aload_n rfl ld_0 15 rfl dX1_fails_14 ?_
    refine g_getf (kf := 25) (v := .int (F 25)) hM.1 rfl rfl in_X1 (by decide) q1686 rfl 18 rfl dX1_fails_15 ?_
    exact j18 (F 25) (by simp [flR, *])
  · refine g_iload_n rfl ld_1 11 rfl dX1_fails_10 ?_
    refine g_goto 18 (by decide) dX1_fails_11 ?_
    exact j18 p (by simp [flR, *])
def rX1_readCoordinate : Room := { frames := 3, cells := 0, slots := 0, locals := 54 }
theorem k_X1_readCoordinate : CV yX1_readCoordinate cX1_readCoordinate 4 none 1 := ⟨q2001, qs72, q81, q2002, by decide +kernel, by decide +kernel, by decide +kernel⟩
set_option maxHeartbeats 1000000 in
theorem c_X1_readCoordinate (l : Launch) (D : DD) (b : Nat) {h : Nat} {ad : Nat → Nat} {σ0 : Hp} {F : Nat → Int32} {A : Nat → Nat → Int32} {σ : Hp} (hM : MW D h ad σ0 F A σ) (ln : Nat) (hln : F 6 = nI ln) (hln240 : ln ≤ 240) (a : Nat) (ha : F 24 = nI a) (hal : a ≤ 300) (m : Nat) (hm : F 27 = nI m) (hm12 : m < 12) (k : Nat) (hk : k < 6) : CM l yX1_readCoordinate cX1_readCoordinate 4 none rX1_readCoordinate D b [.ref h, .int (nI k)] σ (PV (fun σ' => MW D h ad σ0 (upd (upd F 24 (nI (rcO (A 5) ln m k (a, F 25, A 26)).1)) 25 (rcO (A 5) ln m k (a, F 25, A 26)).2.1) (uA A 26 (rcO (A 5) ln m k (a, F 25, A 26)).2.2) σ')) := by
  refine CM_of [some (.ref h), some (.int (nI k)), none, none] RX1 (by decide) rfl (cat_all rfl) (Nat.le_of_ble_eq_true rfl) rfl ?_
  intro z hz hR hnm
  refine g_aload_n rfl ld_0 1 rfl dX1_readCoordinate_0 ?_
  refine g_getf (kf := 24) (v := .int (nI a)) hM.1 (by rw [← ha]; rfl) rfl in_X1 (by decide) q1685 rfl 4 rfl dX1_readCoordinate_1 ?_
  refine g_istore_n rfl sa_2 5 rfl dX1_readCoordinate_4 ?_
  refine g_aload_n rfl ld_0 6 rfl dX1_readCoordinate_5 ?_
  refine g_callV (As := []) (rest := []) (ci := 1) (v_X1_isDigit z.l D b hM (w5 := A 5) rfl ln hln hln240 a ha (by omega)) k_X1_isDigit q2003 hM.1 rfl rfl rfl rfl (Nat.le_of_ble_eq_true rfl) ⟨Nat.le_of_ble_eq_true rfl, Nat.le_of_ble_eq_true rfl⟩ 0 0 (Nat.le_of_ble_eq_true rfl) (Nat.le_of_ble_eq_true rfl) (Nat.le_of_ble_eq_true rfl) (Nat.le_of_ble_eq_true rfl) 9 rfl dX1_readCoordinate_6 (fun v σ1 hq => ?_)
  obtain ⟨rfl, rfl⟩ := hq
  refine g_if_neB 21 12 rfl (by decide) dX1_readCoordinate_9 (fun c9 => ?_) (fun c9 => ?_)
  · have hlt := dg_lt c9
    refine g_aload_n rfl ld_0 22 rfl dX1_readCoordinate_21 ?_
    refine g_getf (kf := 5) (v := .ref (ad 5)) hM.1 rfl rfl in_X1 (by decide) q1666 rfl 25 rfl dX1_readCoordinate_22 ?_
    refine g_aload_n rfl ld_0 26 rfl dX1_readCoordinate_25 ?_
    refine g_getf (kf := 24) (v := .int (nI a)) hM.1 (by rw [← ha]; rfl) rfl in_X1 (by decide) q1685 rfl 29 rfl dX1_readCoordinate_26 ?_
    refine g_iald (j := a) (f := A 5) hM.a5 rfl (by omega) (by decide) 30 rfl dX1_readCoordinate_29 ?_
    refine g_bipush (v := 48) (by decide) 32 rfl dX1_readCoordinate_30 ?_
    refine g_isub 33 rfl dX1_readCoordinate_32 ?_
    refine g_istore_n rfl sa_3 34 rfl dX1_readCoordinate_33 ?_
    refine g_aload_n rfl ld_0 35 rfl dX1_readCoordinate_34 ?_
    refine g_dup rfl 36 rfl dX1_readCoordinate_35 ?_
    refine g_getf (kf := 24) (v := .int (nI a)) hM.1 (by rw [← ha]; rfl) rfl in_X1 (by decide) q1685 rfl 39 rfl dX1_readCoordinate_36 ?_
    refine g_iconst (v := 1) (by decide) 40 rfl dX1_readCoordinate_39 ?_
    refine g_iaddN (a := a) (c := 1) rfl (show (1 : Int32) = nI 1 from rfl) 41 rfl dX1_readCoordinate_40 ?_
    refine gm_put (v := nI (a + 1)) 24 (by decide) hM q1685 44 rfl dX1_readCoordinate_41 (fun σ hM => ?_)
    refine g_aload_n rfl ld_0 45 rfl dX1_readCoordinate_44 ?_
    refine g_callV (As := []) (rest := []) (ci := 1) (v_X1_isDigit z.l D b hM (w5 := A 5) rfl ln hln hln240 ((a + 1)) rfl (by omega)) k_X1_isDigit q2003 hM.1 rfl rfl rfl rfl (Nat.le_of_ble_eq_true rfl) ⟨Nat.le_of_ble_eq_true rfl, Nat.le_of_ble_eq_true rfl⟩ 0 0 (Nat.le_of_ble_eq_true rfl) (Nat.le_of_ble_eq_true rfl) (Nat.le_of_ble_eq_true rfl) (Nat.le_of_ble_eq_true rfl) 48 rfl dX1_readCoordinate_45 (fun v σ1 hq => ?_)
    obtain ⟨rfl, rfl⟩ := hq
    refine g_if_eqB 79 51 rfl (by decide) dX1_readCoordinate_48 (fun c48 => ?_) (fun c48 => ?_)
    · have hv : vlR (A 5) ln a = (A 5 a - 48, a + 1) := by unfold vlR; rw [if_neg (by simp [c48])]
      refine g_iload_n rfl ld_3 80 rfl dX1_readCoordinate_79 ?_
      refine g_bipush (v := 32) (by decide) 82 rfl dX1_readCoordinate_80 ?_
      refine g_icmp_gt 110 85 rfl (by decide) dX1_readCoordinate_82 (fun c82 => ?_) (fun c82 => ?_)
      · refine g_aload_n rfl ld_0 111 rfl dX1_readCoordinate_110 ?_
        refine g_iload_n rfl ld_2 112 rfl dX1_readCoordinate_111 ?_
        refine g_callV (As := [.int (nI a)]) (rest := []) (ci := 1) (c_X1_fails z.l D b hM (nI a)) k_X1_fails q1991 hM.1 rfl rfl rfl rfl (Nat.le_of_ble_eq_true rfl) ⟨Nat.le_of_ble_eq_true rfl, Nat.le_of_ble_eq_true rfl⟩ 0 0 (Nat.le_of_ble_eq_true rfl) (Nat.le_of_ble_eq_true rfl) (Nat.le_of_ble_eq_true rfl) (Nat.le_of_ble_eq_true rfl) 115 rfl dX1_readCoordinate_112 (fun v σ1 hq => ?_)
        obtain ⟨rfl, hM⟩ := hq
        revert σ1
        intro σ hM
        refine g_aload_n rfl ld_0 116 rfl dX1_readCoordinate_115 ?_
        refine g_getf (kf := 26) (v := .ref (ad 26)) hM.1 rfl rfl in_X1 (by decide) q1687 rfl 119 rfl dX1_readCoordinate_116 ?_
        refine g_bipush (v := 7) (by decide) 121 rfl dX1_readCoordinate_119 ?_
        refine g_aload_n rfl ld_0 122 rfl dX1_readCoordinate_121 ?_
        refine g_getf (kf := 27) (v := .int (nI m)) hM.1 (by rw [← hm]; rfl) rfl in_X1 (by decide) q1688 rfl 125 rfl dX1_readCoordinate_122 ?_
        refine g_imulN (a := 7) (c := m) (show (7 : Int32) = nI 7 from rfl) rfl 126 rfl dX1_readCoordinate_125 ?_
        refine g_iload_n rfl ld_1 127 rfl dX1_readCoordinate_126 ?_
        refine g_iaddN (a := (7 * m)) (c := k) rfl rfl 128 rfl dX1_readCoordinate_127 ?_
        refine g_iload_n rfl ld_3 129 rfl dX1_readCoordinate_128 ?_
        refine gm_ast (j := ((7 * m) + k)) 26 (by decide) (by decide) hM rfl (by simp only [msz]; omega) 130 rfl dX1_readCoordinate_129 (fun σ hM => ?_)
        have hb : badR (A 5 a - 48) (A 26) m k = true := by unfold badR; first | (rw [decide_eq_true c82]; rfl) | (rw [decide_eq_false c82, decide_eq_false (show ¬ 2 < k by omega)]; rfl) | (rw [decide_eq_false c82, decide_eq_true (show 2 < k by omega), decide_eq_false c107]; rfl)
        have e4 : rcO (A 5) ln m k (a, F 25, A 26) = (a + 1, flR (F 25) (nI a), upd (A 26) (7 * m + k) (A 5 a - 48)) := by rw [rcO, if_pos c9]; dsimp only; rw [hv]; dsimp only; rw [hb]; rfl
        have hM : MW D h ad σ0 (upd (upd F 24 (nI (rcO (A 5) ln m k (a, F 25, A 26)).1)) 25 (rcO (A 5) ln m k (a, F 25, A 26)).2.1) (uA A 26 (rcO (A 5) ln m k (a, F 25, A 26)).2.2) σ := by
          rw [e4]; dsimp only
          have e1 : upd (upd F 24 (nI (a + 1))) 25 (flR (F 25) (nI a)) = upd (upd F 24 (nI (a + 1))) 25 (flR (F 25) (nI a)) := by funext x9; by_cases h9_24 : x9 = 24; (subst h9_24; simp [upd_ap, ha]); by_cases h9_25 : x9 = 25; (subst h9_25; simp [upd_ap, ha]); simp [upd_ap, h9_24, h9_25]
          rw [e1]; exact hM
        exact g_vret hR (Nat.le_of_ble_eq_true rfl) (Nat.le_of_ble_eq_true rfl) ⟨rfl, hM⟩ dX1_readCoordinate_130
      · refine g_iload_n rfl ld_1 86 rfl dX1_readCoordinate_85 ?_
        refine g_iconst (v := 2) (by decide) 87 rfl dX1_readCoordinate_86 ?_
        refine g_icmp_leN (a := k) (c := 2) rfl (show (2 : Int32) = nI 2 from rfl) (by omega) (by omega) 115 90 rfl (by decide) dX1_readCoordinate_87 (fun c87 => ?_) (fun c87 => ?_)
        · refine g_aload_n rfl ld_0 116 rfl dX1_readCoordinate_115 ?_
          refine g_getf (kf := 26) (v := .ref (ad 26)) hM.1 rfl rfl in_X1 (by decide) q1687 rfl 119 rfl dX1_readCoordinate_116 ?_
          refine g_bipush (v := 7) (by decide) 121 rfl dX1_readCoordinate_119 ?_
          refine g_aload_n rfl ld_0 122 rfl dX1_readCoordinate_121 ?_
          refine g_getf (kf := 27) (v := .int (nI m)) hM.1 (by rw [← hm]; rfl) rfl in_X1 (by decide) q1688 rfl 125 rfl dX1_readCoordinate_122 ?_
          refine g_imulN (a := 7) (c := m) (show (7 : Int32) = nI 7 from rfl) rfl 126 rfl dX1_readCoordinate_125 ?_
          refine g_iload_n rfl ld_1 127 rfl dX1_readCoordinate_126 ?_
          refine g_iaddN (a := (7 * m)) (c := k) rfl rfl 128 rfl dX1_readCoordinate_127 ?_
          refine g_iload_n rfl ld_3 129 rfl dX1_readCoordinate_128 ?_
          refine gm_ast (j := ((7 * m) + k)) 26 (by decide) (by decide) hM rfl (by simp only [msz]; omega) 130 rfl dX1_readCoordinate_129 (fun σ hM => ?_)
          have hb : badR (A 5 a - 48) (A 26) m k = false := by unfold badR; first | (rw [decide_eq_true c82]; rfl) | (rw [decide_eq_false c82, decide_eq_false (show ¬ 2 < k by omega)]; rfl) | (rw [decide_eq_false c82, decide_eq_true (show 2 < k by omega), decide_eq_true c107]; rfl)
          have e4 : rcO (A 5) ln m k (a, F 25, A 26) = (a + 1, F 25, upd (A 26) (7 * m + k) (A 5 a - 48)) := by rw [rcO, if_pos c9]; dsimp only; rw [hv]; dsimp only; rw [hb]; rfl
          have hM : MW D h ad σ0 (upd (upd F 24 (nI (rcO (A 5) ln m k (a, F 25, A 26)).1)) 25 (rcO (A 5) ln m k (a, F 25, A 26)).2.1) (uA A 26 (rcO (A 5) ln m k (a, F 25, A 26)).2.2) σ := by
            rw [e4]; dsimp only
            have e1 : upd (upd F 24 (nI (a + 1))) 25 (F 25) = upd F 24 (nI (a + 1)) := by funext x9; by_cases h9_24 : x9 = 24; (subst h9_24; simp [upd_ap, ha]); by_cases h9_25 : x9 = 25; (subst h9_25; simp [upd_ap, ha]); simp [upd_ap, h9_24, h9_25]
            rw [e1]; exact hM
          exact g_vret hR (Nat.le_of_ble_eq_true rfl) (Nat.le_of_ble_eq_true rfl) ⟨rfl, hM⟩ dX1_readCoordinate_130
        · refine g_iload_n rfl ld_3 91 rfl dX1_readCoordinate_90 ?_
          refine g_aload_n rfl ld_0 92 rfl dX1_readCoordinate_91 ?_
          refine g_getf (kf := 26) (v := .ref (ad 26)) hM.1 rfl rfl in_X1 (by decide) q1687 rfl 95 rfl dX1_readCoordinate_92 ?_
          refine g_bipush (v := 7) (by decide) 97 rfl dX1_readCoordinate_95 ?_
          refine g_aload_n rfl ld_0 98 rfl dX1_readCoordinate_97 ?_
          refine g_getf (kf := 27) (v := .int (nI m)) hM.1 (by rw [← hm]; rfl) rfl in_X1 (by decide) q1688 rfl 101 rfl dX1_readCoordinate_98 ?_
          refine g_imulN (a := 7) (c := m) (show (7 : Int32) = nI 7 from rfl) rfl 102 rfl dX1_readCoordinate_101 ?_
          refine g_iload_n rfl ld_1 103 rfl dX1_readCoordinate_102 ?_
          refine g_iaddN (a := (7 * m)) (c := k) rfl rfl 104 rfl dX1_readCoordinate_103 ?_
          refine g_iconst (v := 3) (by decide) 105 rfl dX1_readCoordinate_104 ?_
          refine g_isubN (a := ((7 * m) + k)) (c := 3) rfl (show (3 : Int32) = nI 3 from rfl) (by omega) 106 rfl dX1_readCoordinate_105 ?_
          refine g_iald (j := (((7 * m) + k) - 3)) (f := A 26) hM.a26 rfl (by omega) (by decide) 107 rfl dX1_readCoordinate_106 ?_
          refine g_icmp_gt 115 110 rfl (by decide) dX1_readCoordinate_107 (fun c107 => ?_) (fun c107 => ?_)
          · refine g_aload_n rfl ld_0 116 rfl dX1_readCoordinate_115 ?_
            refine g_getf (kf := 26) (v := .ref (ad 26)) hM.1 rfl rfl in_X1 (by decide) q1687 rfl 119 rfl dX1_readCoordinate_116 ?_
            refine g_bipush (v := 7) (by decide) 121 rfl dX1_readCoordinate_119 ?_
            refine g_aload_n rfl ld_0 122 rfl dX1_readCoordinate_121 ?_
            refine g_getf (kf := 27) (v := .int (nI m)) hM.1 (by rw [← hm]; rfl) rfl in_X1 (by decide) q1688 rfl 125 rfl dX1_readCoordinate_122 ?_
            refine g_imulN (a := 7) (c := m) (show (7 : Int32) = nI 7 from rfl) rfl 126 rfl dX1_readCoordinate_125 ?_
            refine g_iload_n rfl ld_1 127 rfl dX1_readCoordinate_126 ?_
            refine g_iaddN (a := (7 * m)) (c := k) rfl rfl 128 rfl dX1_readCoordinate_127 ?_
            refine g_iload_n rfl ld_3 129 rfl dX1_readCoordinate_128 ?_
            refine gm_ast (j := ((7 * m) + k)) 26 (by decide) (by decide) hM rfl (by simp only [msz]; omega) 130 rfl dX1_readCoordinate_129 (fun σ hM => ?_)
            have hb : badR (A 5 a - 48) (A 26) m k = false := by unfold badR; first | (rw [decide_eq_true c82]; rfl) | (rw [decide_eq_false c82, decide_eq_false (show ¬ 2 < k by omega)]; rfl) | (rw [decide_eq_false c82, decide_eq_true (show 2 < k by omega), decide_eq_true c107]; rfl)
            have e4 : rcO (A 5) ln m k (a, F 25, A 26) = (a + 1, F 25, upd (A 26) (7 * m + k) (A 5 a - 48)) := by rw [rcO, if_pos c9]; dsimp only; rw [hv]; dsimp only; rw [hb]; rfl
            have hM : MW D h ad σ0 (upd (upd F 24 (nI (rcO (A 5) ln m k (a, F 25, A 26)).1)) 25 (rcO (A 5) ln m k (a, F 25, A 26)).2.1) (uA A 26 (rcO (A 5) ln m k (a, F 25, A 26)).2.2) σ := by
              rw [e4]; dsimp only
              have e1 : upd (upd F 24 (nI (a + 1))) 25 (F 25) = upd F 24 (nI (a + 1)) := by funext x9; by_cases h9_24 : x9 = 24; (subst h9_24; simp [upd_ap, ha]); by_cases h9_25 : x9 = 25; (subst h9_25; simp [upd_ap, ha]); simp [upd_ap, h9_24, h9_25]
              rw [e1]; exact hM
            exact g_vret hR (Nat.le_of_ble_eq_true rfl) (Nat.le_of_ble_eq_true rfl) ⟨rfl, hM⟩ dX1_readCoordinate_130
          · refine g_aload_n rfl ld_0 111 rfl dX1_readCoordinate_110 ?_
            refine g_iload_n rfl ld_2 112 rfl dX1_readCoordinate_111 ?_
            refine g_callV (As := [.int (nI a)]) (rest := []) (ci := 1) (c_X1_fails z.l D b hM (nI a)) k_X1_fails q1991 hM.1 rfl rfl rfl rfl (Nat.le_of_ble_eq_true rfl) ⟨Nat.le_of_ble_eq_true rfl, Nat.le_of_ble_eq_true rfl⟩ 0 0 (Nat.le_of_ble_eq_true rfl) (Nat.le_of_ble_eq_true rfl) (Nat.le_of_ble_eq_true rfl) (Nat.le_of_ble_eq_true rfl) 115 rfl dX1_readCoordinate_112 (fun v σ1 hq => ?_)
            obtain ⟨rfl, hM⟩ := hq
            revert σ1
            intro σ hM
            refine g_aload_n rfl ld_0 116 rfl dX1_readCoordinate_115 ?_
            refine g_getf (kf := 26) (v := .ref (ad 26)) hM.1 rfl rfl in_X1 (by decide) q1687 rfl 119 rfl dX1_readCoordinate_116 ?_
            refine g_bipush (v := 7) (by decide) 121 rfl dX1_readCoordinate_119 ?_
            refine g_aload_n rfl ld_0 122 rfl dX1_readCoordinate_121 ?_
            refine g_getf (kf := 27) (v := .int (nI m)) hM.1 (by rw [← hm]; rfl) rfl in_X1 (by decide) q1688 rfl 125 rfl dX1_readCoordinate_122 ?_
            refine g_imulN (a := 7) (c := m) (show (7 : Int32) = nI 7 from rfl) rfl 126 rfl dX1_readCoordinate_125 ?_
            refine g_iload_n rfl ld_1 127 rfl dX1_readCoordinate_126 ?_
            refine g_iaddN (a := (7 * m)) (c := k) rfl rfl 128 rfl dX1_readCoordinate_127 ?_
            refine g_iload_n rfl ld_3 129 rfl dX1_readCoordinate_128 ?_
            refine gm_ast (j := ((7 * m) + k)) 26 (by decide) (by decide) hM rfl (by simp only [msz]; omega) 130 rfl dX1_readCoordinate_129 (fun σ hM => ?_)
            have hb : badR (A 5 a - 48) (A 26) m k = true := by unfold badR; first | (rw [decide_eq_true c82]; rfl) | (rw [decide_eq_false c82, decide_eq_false (show ¬ 2 < k by omega)]; rfl) | (rw [decide_eq_false c82, decide_eq_true (show 2 < k by omega), decide_eq_false c107]; rfl)
            have e4 : rcO (A 5) ln m k (a, F 25, A 26) = (a + 1, flR (F 25) (nI a), upd (A 26) (7 * m + k) (A 5 a - 48)) := by rw [rcO, if_pos c9]; dsimp only; rw [hv]; dsimp only; rw [hb]; rfl
            have hM : MW D h ad σ0 (upd (upd F 24 (nI (rcO (A 5) ln m k (a, F 25, A 26)).1)) 25 (rcO (A 5) ln m k (a, F 25, A 26)).2.1) (uA A 26 (rcO (A 5) ln m k (a, F 25, A 26)).2.2) σ := by
              rw [e4]; dsimp only
              have e1 : upd (upd F 24 (nI (a + 1))) 25 (flR (F 25) (nI a)) = upd (upd F 24 (nI (a + 1))) 25 (flR (F 25) (nI a)) := by funext x9; by_cases h9_24 : x9 = 24; (subst h9_24; simp [upd_ap, ha]); by_cases h9_25 : x9 = 25; (subst h9_25; simp [upd_ap, ha]); simp [upd_ap, h9_24, h9_25]
              rw [e1]; exact hM
            exact g_vret hR (Nat.le_of_ble_eq_true rfl) (Nat.le_of_ble_eq_true rfl) ⟨rfl, hM⟩ dX1_readCoordinate_130
    · have hlt2 := dg_lt c48
      refine g_bipush (v := 10) (by decide) 53 rfl dX1_readCoordinate_51 ?_
      refine g_iload_n rfl ld_3 54 rfl dX1_readCoordinate_53 ?_
      refine g_imul 55 rfl dX1_readCoordinate_54 ?_
      refine g_aload_n rfl ld_0 56 rfl dX1_readCoordinate_55 ?_
      refine g_getf (kf := 5) (v := .ref (ad 5)) hM.1 rfl rfl in_X1 (by decide) q1666 rfl 59 rfl dX1_readCoordinate_56 ?_
      refine g_aload_n rfl ld_0 60 rfl dX1_readCoordinate_59 ?_
      have g9 : (upd F 24 (nI (a + 1))) 24 = nI (a + 1) := (upd_s _ _ _)
      refine g_getf (kf := 24) (v := .int (nI (a + 1))) hM.1 (mfs_get (by decide) g9) rfl in_X1 (by decide) q1685 rfl 63 rfl dX1_readCoordinate_60 ?_
      refine g_iald (j := (a + 1)) (f := A 5) hM.a5 rfl (by omega) (by decide) 64 rfl dX1_readCoordinate_63 ?_
      refine g_iadd 65 rfl dX1_readCoordinate_64 ?_
      refine g_bipush (v := 48) (by decide) 67 rfl dX1_readCoordinate_65 ?_
      refine g_isub 68 rfl dX1_readCoordinate_67 ?_
      refine g_istore_n rfl sa_3 69 rfl dX1_readCoordinate_68 ?_
      refine g_aload_n rfl ld_0 70 rfl dX1_readCoordinate_69 ?_
      refine g_dup rfl 71 rfl dX1_readCoordinate_70 ?_
      have g9 : (upd F 24 (nI (a + 1))) 24 = nI (a + 1) := (upd_s _ _ _)
      refine g_getf (kf := 24) (v := .int (nI (a + 1))) hM.1 (mfs_get (by decide) g9) rfl in_X1 (by decide) q1685 rfl 74 rfl dX1_readCoordinate_71 ?_
      refine g_iconst (v := 1) (by decide) 75 rfl dX1_readCoordinate_74 ?_
      refine g_iaddN (a := (a + 1)) (c := 1) rfl (show (1 : Int32) = nI 1 from rfl) 76 rfl dX1_readCoordinate_75 ?_
      refine gm_putU (v := nI ((a + 1) + 1)) 24 (by decide) hM q1685 79 rfl dX1_readCoordinate_76 (fun σ hM => ?_)
      have hv : vlR (A 5) ln a = (10 * (A 5 a - 48) + A 5 (a + 1) - 48, a + 2) := by unfold vlR; rw [if_pos c48]
      refine g_iload_n rfl ld_3 80 rfl dX1_readCoordinate_79 ?_
      refine g_bipush (v := 32) (by decide) 82 rfl dX1_readCoordinate_80 ?_
      refine g_icmp_gt 110 85 rfl (by decide) dX1_readCoordinate_82 (fun c82 => ?_) (fun c82 => ?_)
      · refine g_aload_n rfl ld_0 111 rfl dX1_readCoordinate_110 ?_
        refine g_iload_n rfl ld_2 112 rfl dX1_readCoordinate_111 ?_
        refine g_callV (As := [.int (nI a)]) (rest := []) (ci := 1) (c_X1_fails z.l D b hM (nI a)) k_X1_fails q1991 hM.1 rfl rfl rfl rfl (Nat.le_of_ble_eq_true rfl) ⟨Nat.le_of_ble_eq_true rfl, Nat.le_of_ble_eq_true rfl⟩ 0 0 (Nat.le_of_ble_eq_true rfl) (Nat.le_of_ble_eq_true rfl) (Nat.le_of_ble_eq_true rfl) (Nat.le_of_ble_eq_true rfl) 115 rfl dX1_readCoordinate_112 (fun v σ1 hq => ?_)
        obtain ⟨rfl, hM⟩ := hq
        revert σ1
        intro σ hM
        refine g_aload_n rfl ld_0 116 rfl dX1_readCoordinate_115 ?_
        refine g_getf (kf := 26) (v := .ref (ad 26)) hM.1 rfl rfl in_X1 (by decide) q1687 rfl 119 rfl dX1_readCoordinate_116 ?_
        refine g_bipush (v := 7) (by decide) 121 rfl dX1_readCoordinate_119 ?_
        refine g_aload_n rfl ld_0 122 rfl dX1_readCoordinate_121 ?_
        refine g_getf (kf := 27) (v := .int (nI m)) hM.1 (by rw [← hm]; rfl) rfl in_X1 (by decide) q1688 rfl 125 rfl dX1_readCoordinate_122 ?_
        refine g_imulN (a := 7) (c := m) (show (7 : Int32) = nI 7 from rfl) rfl 126 rfl dX1_readCoordinate_125 ?_
        refine g_iload_n rfl ld_1 127 rfl dX1_readCoordinate_126 ?_
        refine g_iaddN (a := (7 * m)) (c := k) rfl rfl 128 rfl dX1_readCoordinate_127 ?_
        refine g_iload_n rfl ld_3 129 rfl dX1_readCoordinate_128 ?_
        refine gm_ast (j := ((7 * m) + k)) 26 (by decide) (by decide) hM rfl (by simp only [msz]; omega) 130 rfl dX1_readCoordinate_129 (fun σ hM => ?_)
        have hb : badR (10 * (A 5 a - 48) + A 5 (a + 1) - 48) (A 26) m k = true := by unfold badR; first | (rw [decide_eq_true c82]; rfl) | (rw [decide_eq_false c82, decide_eq_false (show ¬ 2 < k by omega)]; rfl) | (rw [decide_eq_false c82, decide_eq_true (show 2 < k by omega), decide_eq_false c107]; rfl)
        have e4 : rcO (A 5) ln m k (a, F 25, A 26) = (a + 2, flR (F 25) (nI a), upd (A 26) (7 * m + k) (10 * (A 5 a - 48) + A 5 (a + 1) - 48)) := by rw [rcO, if_pos c9]; dsimp only; rw [hv]; dsimp only; rw [hb]; rfl
        have hM : MW D h ad σ0 (upd (upd F 24 (nI (rcO (A 5) ln m k (a, F 25, A 26)).1)) 25 (rcO (A 5) ln m k (a, F 25, A 26)).2.1) (uA A 26 (rcO (A 5) ln m k (a, F 25, A 26)).2.2) σ := by
          rw [e4]; dsimp only
          have e1 : upd (upd F 24 (nI (a + 2))) 25 (flR (F 25) (nI a)) = upd (upd F 24 (nI ((a + 1) + 1))) 25 (flR (F 25) (nI a)) := by funext x9; by_cases h9_24 : x9 = 24; (subst h9_24; simp [upd_ap, ha]); by_cases h9_25 : x9 = 25; (subst h9_25; simp [upd_ap, ha]); simp [upd_ap, h9_24, h9_25]
          rw [e1]; exact hM
        exact g_vret hR (Nat.le_of_ble_eq_true rfl) (Nat.le_of_ble_eq_true rfl) ⟨rfl, hM⟩ dX1_readCoordinate_130
      · refine g_iload_n rfl ld_1 86 rfl dX1_readCoordinate_85 ?_
        refine g_iconst (v := 2) (by decide) 87 rfl dX1_readCoordinate_86 ?_
        refine g_icmp_leN (a := k) (c := 2) rfl (show (2 : Int32) = nI 2 from rfl) (by omega) (by omega) 115 90 rfl (by decide) dX1_readCoordinate_87 (fun c87 => ?_) (fun c87 => ?_)
        · refine g_aload_n rfl ld_0 116 rfl dX1_readCoordinate_115 ?_
          refine g_getf (kf := 26) (v := .ref (ad 26)) hM.1 rfl rfl in_X1 (by decide) q1687 rfl 119 rfl dX1_readCoordinate_116 ?_
          refine g_bipush (v := 7) (by decide) 121 rfl dX1_readCoordinate_119 ?_
          refine g_aload_n rfl ld_0 122 rfl dX1_readCoordinate_121 ?_
          refine g_getf (kf := 27) (v := .int (nI m)) hM.1 (by rw [← hm]; rfl) rfl in_X1 (by decide) q1688 rfl 125 rfl dX1_readCoordinate_122 ?_
          refine g_imulN (a := 7) (c := m) (show (7 : Int32) = nI 7 from rfl) rfl 126 rfl dX1_readCoordinate_125 ?_
          refine g_iload_n rfl ld_1 127 rfl dX1_readCoordinate_126 ?_
          refine g_iaddN (a := (7 * m)) (c := k) rfl rfl 128 rfl dX1_readCoordinate_127 ?_
          refine g_iload_n rfl ld_3 129 rfl dX1_readCoordinate_128 ?_
          refine gm_ast (j := ((7 * m) + k)) 26 (by decide) (by decide) hM rfl (by simp only [msz]; omega) 130 rfl dX1_readCoordinate_129 (fun σ hM => ?_)
          have hb : badR (10 * (A 5 a - 48) + A 5 (a + 1) - 48) (A 26) m k = false := by unfold badR; first | (rw [decide_eq_true c82]; rfl) | (rw [decide_eq_false c82, decide_eq_false (show ¬ 2 < k by omega)]; rfl) | (rw [decide_eq_false c82, decide_eq_true (show 2 < k by omega), decide_eq_true c107]; rfl)
          have e4 : rcO (A 5) ln m k (a, F 25, A 26) = (a + 2, F 25, upd (A 26) (7 * m + k) (10 * (A 5 a - 48) + A 5 (a + 1) - 48)) := by rw [rcO, if_pos c9]; dsimp only; rw [hv]; dsimp only; rw [hb]; rfl
          have hM : MW D h ad σ0 (upd (upd F 24 (nI (rcO (A 5) ln m k (a, F 25, A 26)).1)) 25 (rcO (A 5) ln m k (a, F 25, A 26)).2.1) (uA A 26 (rcO (A 5) ln m k (a, F 25, A 26)).2.2) σ := by
            rw [e4]; dsimp only
            have e1 : upd (upd F 24 (nI (a + 2))) 25 (F 25) = upd F 24 (nI ((a + 1) + 1)) := by funext x9; by_cases h9_24 : x9 = 24; (subst h9_24; simp [upd_ap, ha]); by_cases h9_25 : x9 = 25; (subst h9_25; simp [upd_ap, ha]); simp [upd_ap, h9_24, h9_25]
            rw [e1]; exact hM
          exact g_vret hR (Nat.le_of_ble_eq_true rfl) (Nat.le_of_ble_eq_true rfl) ⟨rfl, hM⟩ dX1_readCoordinate_130
        · refine g_iload_n rfl ld_3 91 rfl dX1_readCoordinate_90 ?_
          refine g_aload_n rfl ld_0 92 rfl dX1_readCoordinate_91 ?_
          refine g_getf (kf := 26) (v := .ref (ad 26)) hM.1 rfl rfl in_X1 (by decide) q1687 rfl 95 rfl dX1_readCoordinate_92 ?_
          refine g_bipush (v := 7) (by decide) 97 rfl dX1_readCoordinate_95 ?_
          refine g_aload_n rfl ld_0 98 rfl dX1_readCoordinate_97 ?_
          refine g_getf (kf := 27) (v := .int (nI m)) hM.1 (by rw [← hm]; rfl) rfl in_X1 (by decide) q1688 rfl 101 rfl dX1_readCoordinate_98 ?_
          refine g_imulN (a := 7) (c := m) (show (7 : Int32) = nI 7 from rfl) rfl 102 rfl dX1_readCoordinate_101 ?_
          refine g_iload_n rfl ld_1 103 rfl dX1_readCoordinate_102 ?_
          refine g_iaddN (a := (7 * m)) (c := k) rfl rfl 104 rfl dX1_readCoordinate_103 ?_
          refine g_iconst (v := 3) (by decide) 105 rfl dX1_readCoordinate_104 ?_
          refine g_isubN (a := ((7 * m) + k)) (c := 3) rfl (show (3 : Int32) = nI 3 from rfl) (by omega) 106 rfl dX1_readCoordinate_105 ?_
          refine g_iald (j := (((7 * m) + k) - 3)) (f := A 26) hM.a26 rfl (by omega) (by decide) 107 rfl dX1_readCoordinate_106 ?_
          refine g_icmp_gt 115 110 rfl (by decide) dX1_readCoordinate_107 (fun c107 => ?_) (fun c107 => ?_)
          · refine g_aload_n rfl ld_0 116 rfl dX1_readCoordinate_115 ?_
            refine g_getf (kf := 26) (v := .ref (ad 26)) hM.1 rfl rfl in_X1 (by decide) q1687 rfl 119 rfl dX1_readCoordinate_116 ?_
            refine g_bipush (v := 7) (by decide) 121 rfl dX1_readCoordinate_119 ?_
            refine g_aload_n rfl ld_0 122 rfl dX1_readCoordinate_121 ?_
            refine g_getf (kf := 27) (v := .int (nI m)) hM.1 (by rw [← hm]; rfl) rfl in_X1 (by decide) q1688 rfl 125 rfl dX1_readCoordinate_122 ?_
            refine g_imulN (a := 7) (c := m) (show (7 : Int32) = nI 7 from rfl) rfl 126 rfl dX1_readCoordinate_125 ?_
            refine g_iload_n rfl ld_1 127 rfl dX1_readCoordinate_126 ?_
            refine g_iaddN (a := (7 * m)) (c := k) rfl rfl 128 rfl dX1_readCoordinate_127 ?_
            refine g_iload_n rfl ld_3 129 rfl dX1_readCoordinate_128 ?_
            refine gm_ast (j := ((7 * m) + k)) 26 (by decide) (by decide) hM rfl (by simp only [msz]; omega) 130 rfl dX1_readCoordinate_129 (fun σ hM => ?_)
            have hb : badR (10 * (A 5 a - 48) + A 5 (a + 1) - 48) (A 26) m k = false := by unfold badR; first | (rw [decide_eq_true c82]; rfl) | (rw [decide_eq_false c82, decide_eq_false (show ¬ 2 < k by omega)]; rfl) | (rw [decide_eq_false c82, decide_eq_true (show 2 < k by omega), decide_eq_true c107]; rfl)
            have e4 : rcO (A 5) ln m k (a, F 25, A 26) = (a + 2, F 25, upd (A 26) (7 * m + k) (10 * (A 5 a - 48) + A 5 (a + 1) - 48)) := by rw [rcO, if_pos c9]; dsimp only; rw [hv]; dsimp only; rw [hb]; rfl
            have hM : MW D h ad σ0 (upd (upd F 24 (nI (rcO (A 5) ln m k (a, F 25, A 26)).1)) 25 (rcO (A 5) ln m k (a, F 25, A 26)).2.1) (uA A 26 (rcO (A 5) ln m k (a, F 25, A 26)).2.2) σ := by
              rw [e4]; dsimp only
              have e1 : upd (upd F 24 (nI (a + 2))) 25 (F 25) = upd F 24 (nI ((a + 1) + 1)) := by funext x9; by_cases h9_24 : x9 = 24; (subst h9_24; simp [upd_ap, ha]); by_cases h9_25 : x9 = 25; (subst h9_25; simp [upd_ap, ha]); simp [upd_ap, h9_24, h9_25]
              rw [e1]; exact hM
            exact g_vret hR (Nat.le_of_ble_eq_true rfl) (Nat.le_of_ble_eq_true rfl) ⟨rfl, hM⟩ dX1_readCoordinate_130
          · refine g_aload_n rfl ld_0 111 rfl dX1_readCoordinate_110 ?_
            refine g_iload_n rfl ld_2 112 rfl dX1_readCoordinate_111 ?_
            refine g_callV (As := [.int (nI a)]) (rest := []) (ci := 1) (c_X1_fails z.l D b hM (nI a)) k_X1_fails q1991 hM.1 rfl rfl rfl rfl (Nat.le_of_ble_eq_true rfl) ⟨Nat.le_of_ble_eq_true rfl, Nat.le_of_ble_eq_true rfl⟩ 0 0 (Nat.le_of_ble_eq_true rfl) (Nat.le_of_ble_eq_true rfl) (Nat.le_of_ble_eq_true rfl) (Nat.le_of_ble_eq_true rfl) 115 rfl dX1_readCoordinate_112 (fun v σ1 hq => ?_)
            obtain ⟨rfl, hM⟩ := hq
            revert σ1
            intro σ hM
            refine g_aload_n rfl ld_0 116 rfl dX1_readCoordinate_115 ?_
            refine g_getf (kf := 26) (v := .ref (ad 26)) hM.1 rfl rfl in_X1 (by decide) q1687 rfl 119 rfl dX1_readCoordinate_116 ?_
            refine g_bipush (v := 7) (by decide) 121 rfl dX1_readCoordinate_119 ?_
            refine g_aload_n rfl ld_0 122 rfl dX1_readCoordinate_121 ?_
            refine g_getf (kf := 27) (v := .int (nI m)) hM.1 (by rw [← hm]; rfl) rfl in_X1 (by decide) q1688 rfl 125 rfl dX1_readCoordinate_122 ?_
            refine g_imulN (a := 7) (c := m) (show (7 : Int32) = nI 7 from rfl) rfl 126 rfl dX1_readCoordinate_125 ?_
            refine g_iload_n rfl ld_1 127 rfl dX1_readCoordinate_126 ?_
            refine g_iaddN (a := (7 * m)) (c := k) rfl rfl 128 rfl dX1_readCoordinate_127 ?_
            refine g_iload_n rfl ld_3 129 rfl dX1_readCoordinate_128 ?_
            refine gm_ast (j := ((7 * m) + k)) 26 (by decide) (by decide) hM rfl (by simp only [msz]; omega) 130 rfl dX1_readCoordinate_129 (fun σ hM => ?_)
            have hb : badR (10 * (A 5 a - 48) + A 5 (a + 1) - 48) (A 26) m k = true := by unfold badR; first | (rw [decide_eq_true c82]; rfl) | (rw [decide_eq_false c82, decide_eq_false (show ¬ 2 < k by omega)]; rfl) | (rw [decide_eq_false c82, decide_eq_true (show 2 < k by omega), decide_eq_false c107]; rfl)
            have e4 : rcO (A 5) ln m k (a, F 25, A 26) = (a + 2, flR (F 25) (nI a), upd (A 26) (7 * m + k) (10 * (A 5 a - 48) + A 5 (a + 1) - 48)) := by rw [rcO, if_pos c9]; dsimp only; rw [hv]; dsimp only; rw [hb]; rfl
            have hM : MW D h ad σ0 (upd (upd F 24 (nI (rcO (A 5) ln m k (a, F 25, A 26)).1)) 25 (rcO (A 5) ln m k (a, F 25, A 26)).2.1) (uA A 26 (rcO (A 5) ln m k (a, F 25, A 26)).2.2) σ := by
              rw [e4]; dsimp only
              have e1 : upd (upd F 24 (nI (a + 2))) 25 (flR (F 25) (nI a)) = upd (upd F 24 (nI ((a + 1) + 1))) 25 (flR (F 25) (nI a)) := by funext x9; by_cases h9_24 : x9 = 24; (subst h9_24; simp [upd_ap, ha]); by_cases h9_25 : x9 = 25; (subst h9_25; simp [upd_ap, ha]); simp [upd_ap, h9_24, h9_25]
              rw [e1]; exact hM
            exact g_vret hR (Nat.le_of_ble_eq_true rfl) (Nat.le_of_ble_eq_true rfl) ⟨rfl, hM⟩ dX1_readCoordinate_130
  · refine g_aload_n rfl ld_0 13 rfl dX1_readCoordinate_12 ?_
    refine g_aload_n rfl ld_0 14 rfl dX1_readCoordinate_13 ?_
    refine g_getf (kf := 24) (v := .int (nI a)) hM.1 (by rw [← ha]; rfl) rfl in_X1 (by decide) q1685 rfl 17 rfl dX1_readCoordinate_14 ?_
    refine g_callV (As := [.int (nI a)]) (rest := []) (ci := 1) (c_X1_fails z.l D b hM (nI a)) k_X1_fails q1991 hM.1 rfl rfl rfl rfl (Nat.le_of_ble_eq_true rfl) ⟨Nat.le_of_ble_eq_true rfl, Nat.le_of_ble_eq_true rfl⟩ 0 0 (Nat.le_of_ble_eq_true rfl) (Nat.le_of_ble_eq_true rfl) (Nat.le_of_ble_eq_true rfl) (Nat.le_of_ble_eq_true rfl) 20 rfl dX1_readCoordinate_17 (fun v σ1 hq => ?_)
    obtain ⟨rfl, hM⟩ := hq
    revert σ1
    intro σ hM
    have e4 : rcO (A 5) ln m k (a, F 25, A 26) = (a, flR (F 25) (nI a), A 26) := by rw [rcO, if_neg (by simp [c9])]
    have hM : MW D h ad σ0 (upd (upd F 24 (nI (rcO (A 5) ln m k (a, F 25, A 26)).1)) 25 (rcO (A 5) ln m k (a, F 25, A 26)).2.1) (uA A 26 (rcO (A 5) ln m k (a, F 25, A 26)).2.2) σ := by
      rw [e4]; dsimp only
      have e1 : upd (upd F 24 (nI a)) 25 (flR (F 25) (nI a)) = upd F 25 (flR (F 25) (nI a)) := by funext x9; by_cases h9_24 : x9 = 24; (subst h9_24; simp [upd_ap, ha]); by_cases h9_25 : x9 = 25; (subst h9_25; simp [upd_ap, ha]); simp [upd_ap, h9_24, h9_25]
      have e2 : uA A 26 (A 26) = A := uA_self A 26
      rw [e1, e2]; exact hM
    exact g_vret hR (Nat.le_of_ble_eq_true rfl) (Nat.le_of_ble_eq_true rfl) ⟨rfl, hM⟩ dX1_readCoordinate_20
theorem v_X1_readCoordinate (l : Launch) (D : DD) (b : Nat) {h : Nat} {ad : Nat → Nat} {σ0 : Hp} {F : Nat → Int32} {A : Nat → Nat → Int32} {σ : Hp} (hM : MW D h ad σ0 F A σ) {w5 : Nat → Int32} (hw5 : A 5 = w5) {w26 : Nat → Int32} (hw26 : A 26 = w26) (ln : Nat) (hln : F 6 = nI ln) (hln240 : ln ≤ 240) (a : Nat) (ha : F 24 = nI a) (hal : a ≤ 300) (m : Nat) (hm : F 27 = nI m) (hm12 : m < 12) (k : Nat) (hk : k < 6) : CM l yX1_readCoordinate cX1_readCoordinate 4 none rX1_readCoordinate D b [.ref h, .int (nI k)] σ (PV (fun σ' => MW D h ad σ0 (upd (upd F 24 (nI (rcO (w5) ln m k (a, F 25, w26)).1)) 25 (rcO (w5) ln m k (a, F 25, w26)).2.1) (uA A 26 (rcO (w5) ln m k (a, F 25, w26)).2.2) σ')) := by
  subst hw5
  subst hw26
  exact c_X1_readCoordinate l D b hM ln hln hln240 a ha hal m hm hm12 k hk
