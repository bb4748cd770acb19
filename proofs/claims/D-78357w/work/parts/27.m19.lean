/-! THE REFERENCE, part 19: fault, load, save, restore -/
set_option maxRecDepth 100000
abbrev FS : Type := Nat × Int32 × Nat × (Nat → Int32)
def ftS (t : Nat → Int32) (ln : Nat) : Nat → FS → FS
  | 0, s => s
  | f + 1, s => if s.2.1 = -106 ∧ s.1 < ln then
      (if s.2.2.1 = 12 then ftS t ln f (s.1, nI s.1, s.2.2.1, s.2.2.2)
       else ftS t ln f ((itemO t ln s.2.2.1 (s.1, s.2.1, s.2.2.2)).1, (itemO t ln s.2.2.1 (s.1, s.2.1, s.2.2.2)).2.1, s.2.2.1 + 1, (itemO t ln s.2.2.1 (s.1, s.2.1, s.2.2.2)).2.2))
    else s
theorem ft_item {t : Nat → Int32} {ln f a m : Nat} {wr : Int32} {rd : Nat → Int32} (h1 : wr = -106) (h2 : a < ln) (h3 : ¬ m = 12) : ftS t ln (f + 1) (a, wr, m, rd) = ftS t ln f ((itemO t ln m (a, wr, rd)).1, (itemO t ln m (a, wr, rd)).2.1, m + 1, (itemO t ln m (a, wr, rd)).2.2) := by
  rw [ftS]; dsimp only; rw [if_pos ⟨h1, h2⟩, if_neg h3]
theorem ft_full {t : Nat → Int32} {ln f a : Nat} {wr : Int32} {rd : Nat → Int32} (h1 : wr = -106) (h2 : a < ln) : ftS t ln (f + 1) (a, wr, 12, rd) = ftS t ln f (a, nI a, 12, rd) := by
  rw [ftS]; dsimp only; rw [if_pos ⟨h1, h2⟩, if_pos rfl]
theorem ft_done {t : Nat → Int32} {ln a m : Nat} {wr : Int32} {rd : Nat → Int32} (h : ¬ (wr = -106 ∧ a < ln)) : ∀ f, ftS t ln f (a, wr, m, rd) = (a, wr, m, rd)
  | 0 => rfl
  | f + 1 => by rw [ftS]; dsimp only; rw [if_neg h]
def ftO (t rd : Nat → Int32) (ln : Nat) : FS := ftS t ln 14 (0, -106, 0, rd)
theorem ft_m (t : Nat → Int32) (ln : Nat) : ∀ (f : Nat) (s : FS), s.2.2.1 ≤ 12 → (ftS t ln f s).2.2.1 ≤ 12
  | 0, _, h => h
  | f + 1, s, h => by
    rw [ftS]
    split
    · split
      · exact ft_m t ln f _ h
      · exact ft_m t ln f _ (by show _ + 1 ≤ 12; omega)
    · exact h
def rX1_fault : Room := { frames := 5, cells := 0, slots := 0, locals := 99 }
theorem k_X1_fault : CV yX1_fault cX1_fault 1 (some .int) 0 := ⟨q1988, q1989, q81, q1990, by decide +kernel, by decide +kernel, by decide +kernel⟩
set_option maxHeartbeats 1000000 in
theorem c_X1_fault (l : Launch) (D : DD) (b : Nat) {h : Nat} {ad : Nat → Nat} {σ0 : Hp} {F : Nat → Int32} {A : Nat → Nat → Int32} {σ : Hp} (hM : MW D h ad σ0 F A σ) (ln : Nat) (hln : F 6 = nI ln) (hln240 : ln ≤ 240) : CM l yX1_fault cX1_fault 1 (some .int) rX1_fault D b [.ref h] σ (PI (fun r σ' => r = (ftO (A 5) (A 26) ln).2.1 ∧ MW D h ad σ0 (upd (upd (upd F 24 (nI (ftO (A 5) (A 26) ln).1)) 25 (ftO (A 5) (A 26) ln).2.1) 27 (nI (ftO (A 5) (A 26) ln).2.2.1)) (uA A 26 (ftO (A 5) (A 26) ln).2.2.2) σ')) := by
  refine CM_of [some (.ref h)] RX1 (by decide) rfl (cat_all rfl) (Nat.le_of_ble_eq_true rfl) rfl ?_
  intro z hz hR hnm
  refine g_aload_n rfl ld_0 1 rfl dX1_fault_0 ?_
  refine g_iconst (v := 0) (by decide) 2 rfl dX1_fault_1 ?_
  refine gm_put (v := (0 : Int32)) 24 (by decide) hM q1685 5 rfl dX1_fault_2 (fun σ hM => ?_)
  refine g_aload_n rfl ld_0 6 rfl dX1_fault_5 ?_
  refine g_bipush (v := -106) (by decide) 8 rfl dX1_fault_6 ?_
  refine gm_put (v := (-106 : Int32)) 25 (by decide) hM q1686 11 rfl dX1_fault_8 (fun σ hM => ?_)
  refine g_aload_n rfl ld_0 12 rfl dX1_fault_11 ?_
  refine g_iconst (v := 0) (by decide) 13 rfl dX1_fault_12 ?_
  refine gm_put (v := (0 : Int32)) 27 (by decide) hM q1688 16 rfl dX1_fault_13 (fun σ hM => ?_)
  have lp16 : ∀ (fu i : Nat) (a1 : Nat) (w1 : Int32) (m1 : Nat) (r1 : Nat → Int32) (σ : Hp), i ≤ 13 → 13 + 1 ≤ i + fu → (ftS (A 5) ln (13 - i + 1) (a1, w1, m1, r1) = ftO (A 5) (A 26) ln) → (w1 = -106 → a1 ≤ ln ∧ m1 = i) → (m1 ≤ 12) → (a1 ≤ ln + 1) → MW D h ad σ0 (upd (upd (upd F 24 (nI a1)) 25 w1) 27 (nI m1)) (uA A 26 r1) σ → G z cX1_fault RX1 1 rX1_fault D b σ 0 0 16 [some (.ref h)] [] := by
    intro fu
    induction fu with
    | zero => intros; omega
    | succ fu ih16 =>
      intro i a1 w1 m1 r1 σ hi hf hft hinv hm12 ha1 hM
      refine g_aload_n rfl ld_0 17 rfl dX1_fault_16 ?_
      have g9 : (upd (upd (upd F 24 (nI a1)) 25 w1) 27 (nI m1)) 25 = w1 := (Eq.trans (upd_n (by decide)) (upd_s _ _ _))
      refine g_getf (kf := 25) (v := .int w1) hM.1 (mfs_get (by decide) g9) rfl in_X1 (by decide) q1686 rfl 20 rfl dX1_fault_17 ?_
      refine g_bipush (v := -106) (by decide) 22 rfl dX1_fault_20 ?_
      refine g_icmp_ne 63 25 rfl (by decide) dX1_fault_22 (fun c22 => ?_) (fun c22 => ?_)
      · refine g_aload_n rfl ld_0 64 rfl dX1_fault_63 ?_
        have g9 : (upd (upd (upd F 24 (nI a1)) 25 w1) 27 (nI m1)) 25 = w1 := (Eq.trans (upd_n (by decide)) (upd_s _ _ _))
        refine g_getf (kf := 25) (v := .int w1) hM.1 (mfs_get (by decide) g9) rfl in_X1 (by decide) q1686 rfl 67 rfl dX1_fault_64 ?_
        have e4 : ftO (A 5) (A 26) ln = (a1, w1, m1, r1) := hft.symm.trans (ft_done (by rintro ⟨p, q⟩; first | exact c22 p | omega) _)
        exact g_iret hR rfl (Nat.le_of_ble_eq_true rfl) (Nat.le_of_ble_eq_true rfl) ⟨_, rfl, by rw [e4], by rw [e4]; exact hM⟩ dX1_fault_67
      · have hi9 := hinv c22
        refine g_aload_n rfl ld_0 26 rfl dX1_fault_25 ?_
        have g9 : (upd (upd (upd F 24 (nI a1)) 25 w1) 27 (nI m1)) 24 = nI a1 := (Eq.trans (upd_n (by decide)) (Eq.trans (upd_n (by decide)) (upd_s _ _ _)))
        refine g_getf (kf := 24) (v := .int (nI a1)) hM.1 (mfs_get (by decide) g9) rfl in_X1 (by decide) q1685 rfl 29 rfl dX1_fault_26 ?_
        refine g_aload_n rfl ld_0 30 rfl dX1_fault_29 ?_
        refine g_getf (kf := 6) (v := .int (nI ln)) hM.1 (by rw [← hln]; rfl) rfl in_X1 (by decide) q1667 rfl 33 rfl dX1_fault_30 ?_
        refine g_icmp_geN (a := a1) (c := ln) rfl rfl (by omega) (by omega) 63 36 rfl (by decide) dX1_fault_33 (fun c33 => ?_) (fun c33 => ?_)
        · refine g_aload_n rfl ld_0 64 rfl dX1_fault_63 ?_
          have g9 : (upd (upd (upd F 24 (nI a1)) 25 w1) 27 (nI m1)) 25 = w1 := (Eq.trans (upd_n (by decide)) (upd_s _ _ _))
          refine g_getf (kf := 25) (v := .int w1) hM.1 (mfs_get (by decide) g9) rfl in_X1 (by decide) q1686 rfl 67 rfl dX1_fault_64 ?_
          have e4 : ftO (A 5) (A 26) ln = (a1, w1, m1, r1) := hft.symm.trans (ft_done (by rintro ⟨p, q⟩; first | exact c22 p | omega) _)
          exact g_iret hR rfl (Nat.le_of_ble_eq_true rfl) (Nat.le_of_ble_eq_true rfl) ⟨_, rfl, by rw [e4], by rw [e4]; exact hM⟩ dX1_fault_67
        · refine g_aload_n rfl ld_0 37 rfl dX1_fault_36 ?_
          have g9 : (upd (upd (upd F 24 (nI a1)) 25 w1) 27 (nI m1)) 27 = nI m1 := (upd_s _ _ _)
          refine g_getf (kf := 27) (v := .int (nI m1)) hM.1 (mfs_get (by decide) g9) rfl in_X1 (by decide) q1688 rfl 40 rfl dX1_fault_37 ?_
          refine g_bipush (v := 12) (by decide) 42 rfl dX1_fault_40 ?_
          refine g_icmp_neN (a := m1) (c := 12) rfl (show (12 : Int32) = nI 12 from rfl) (by omega) (by omega) 56 45 rfl (by decide) dX1_fault_42 (fun c42 => ?_) (fun c42 => ?_)
          · refine g_aload_n rfl ld_0 57 rfl dX1_fault_56 ?_
            refine g_callV (As := []) (rest := []) (ci := 1) (v_X1_readItem z.l D b hM (w5 := A 5) rfl (w26 := r1) rfl ln hln hln240 a1 rfl (by omega) m1 rfl (by omega)) k_X1_readItem q1995 hM.1 rfl rfl rfl rfl (Nat.le_of_ble_eq_true rfl) ⟨Nat.le_of_ble_eq_true rfl, Nat.le_of_ble_eq_true rfl⟩ 0 0 (Nat.le_of_ble_eq_true rfl) (Nat.le_of_ble_eq_true rfl) (Nat.le_of_ble_eq_true rfl) (Nat.le_of_ble_eq_true rfl) 60 rfl dX1_fault_57 (fun v σ1 hq => ?_)
            obtain ⟨rfl, hM⟩ := hq
            revert σ1
            intro σ hM
            have e25 : (upd (upd (upd F 24 (nI a1)) 25 w1) 27 (nI m1)) 25 = w1 := (Eq.trans (upd_n (by decide)) (upd_s _ _ _))
            rw [e25, uA_uA] at hM
            have hM : MW D h ad σ0 (upd (upd (upd F 24 (nI (itemO (A 5) ln m1 (a1, w1, r1)).1)) 25 ((itemO (A 5) ln m1 (a1, w1, r1)).2.1)) 27 (nI (m1 + 1))) (uA A 26 ((itemO (A 5) ln m1 (a1, w1, r1)).2.2)) σ := by
              have e9 : upd (upd (upd F 24 (nI (itemO (A 5) ln m1 (a1, w1, r1)).1)) 25 ((itemO (A 5) ln m1 (a1, w1, r1)).2.1)) 27 (nI (m1 + 1)) = upd (upd (upd (upd (upd (upd F 24 (nI a1)) 25 w1) 27 (nI m1)) 24 (nI (itemO (A 5) ln m1 (a1, w1, r1)).1)) 25 ((itemO (A 5) ln m1 (a1, w1, r1)).2.1)) 27 (nI (m1 + 1)) := by funext x9; by_cases h9_24 : x9 = 24; (subst h9_24; simp [upd_ap]); by_cases h9_25 : x9 = 25; (subst h9_25; simp [upd_ap]); by_cases h9_27 : x9 = 27; (subst h9_27; simp [upd_ap]); simp [upd_ap, h9_24, h9_25, h9_27]
              rw [e9]; exact hM
            have hM : MW D h ad σ0 (upd (upd (upd F 24 (nI (itemO (A 5) ln m1 (a1, w1, r1)).1)) 25 ((itemO (A 5) ln m1 (a1, w1, r1)).2.1)) 27 (nI (m1 + 1))) (uA A 26 ((itemO (A 5) ln m1 (a1, w1, r1)).2.2)) σ := by
              exact hM
            have hil := item_le (t := A 5) (m := m1) (s0 := (a1, w1, r1)) (by show a1 ≤ ln; omega) hln240
            have hiw := item_wr (t := A 5) (m := m1) (s0 := (a1, w1, r1)) (by show a1 ≤ ln; omega) hln240
            obtain ⟨⟨ra, rw9, rr⟩, hr⟩ : ∃ r9 : RS, itemO (A 5) ln m1 (a1, w1, r1) = r9 := ⟨_, rfl⟩
            rw [hr] at hM hil hiw
            dsimp only at hM hil hiw
            refine g_goto 16 (by decide) dX1_fault_60 ?_
            exact ih16 (i + 1) ra rw9 (m1 + 1) rr σ (by omega) (by omega) (by rw [show 13 - i + 1 = (13 - (i + 1) + 1) + 1 by omega, ft_item c22 c33 c42, hr] at hft; exact hft) (fun q => ⟨hiw q, by have := (hinv c22).2; omega⟩) (by omega) (by omega) hM
          · refine g_aload_n rfl ld_0 46 rfl dX1_fault_45 ?_
            refine g_aload_n rfl ld_0 47 rfl dX1_fault_46 ?_
            have g9 : (upd (upd (upd F 24 (nI a1)) 25 w1) 27 (nI m1)) 24 = nI a1 := (Eq.trans (upd_n (by decide)) (Eq.trans (upd_n (by decide)) (upd_s _ _ _)))
            refine g_getf (kf := 24) (v := .int (nI a1)) hM.1 (mfs_get (by decide) g9) rfl in_X1 (by decide) q1685 rfl 50 rfl dX1_fault_47 ?_
            refine g_callV (As := [.int (nI a1)]) (rest := []) (ci := 1) (c_X1_fails z.l D b hM (nI a1)) k_X1_fails q1991 hM.1 rfl rfl rfl rfl (Nat.le_of_ble_eq_true rfl) ⟨Nat.le_of_ble_eq_true rfl, Nat.le_of_ble_eq_true rfl⟩ 0 0 (Nat.le_of_ble_eq_true rfl) (Nat.le_of_ble_eq_true rfl) (Nat.le_of_ble_eq_true rfl) (Nat.le_of_ble_eq_true rfl) 53 rfl dX1_fault_50 (fun v σ1 hq => ?_)
            obtain ⟨rfl, hM⟩ := hq
            revert σ1
            intro σ hM
            have hM : MW D h ad σ0 (upd (upd (upd F 24 (nI a1)) 27 (nI m1)) 25 (flR w1 (nI a1))) (uA A 26 r1) σ := by
              have e9 : upd (upd (upd F 24 (nI a1)) 27 (nI m1)) 25 (flR w1 (nI a1)) = upd (upd (upd (upd F 24 (nI a1)) 25 w1) 27 (nI m1)) 25 (flR w1 (nI a1)) := by funext x9; by_cases h9_24 : x9 = 24; (subst h9_24; simp [upd_ap]); by_cases h9_25 : x9 = 25; (subst h9_25; simp [upd_ap]); by_cases h9_27 : x9 = 27; (subst h9_27; simp [upd_ap]); simp [upd_ap, h9_24, h9_25, h9_27]
              rw [e9]; exact hM
            refine g_goto 16 (by decide) dX1_fault_53 ?_
            have hM : MW D h ad σ0 (upd (upd (upd F 24 (nI a1)) 25 ((flR w1 (nI a1)))) 27 (nI m1)) (uA A 26 r1) σ := by
              have e1 : upd (upd (upd F 24 (nI a1)) 25 ((flR w1 (nI a1)))) 27 (nI m1) = upd (upd (upd F 24 (nI a1)) 27 (nI m1)) 25 (flR w1 (nI a1)) := by funext x9; by_cases h9_24 : x9 = 24; (subst h9_24; simp [upd_ap]); by_cases h9_25 : x9 = 25; (subst h9_25; simp [upd_ap]); by_cases h9_27 : x9 = 27; (subst h9_27; simp [upd_ap]); simp [upd_ap, h9_24, h9_25, h9_27]
              rw [e1]; exact hM
            exact ih16 (i + 1) a1 (flR w1 (nI a1)) m1 r1 σ (by omega) (by omega) (by rw [show 13 - i + 1 = (13 - (i + 1) + 1) + 1 by omega, c42, ft_full c22 c33] at hft; rw [flR, if_pos c22, c42]; exact hft) (fun q => absurd (by rw [flR, if_pos c22] at q; exact q) (nI_n106 (by omega))) (by omega) (by omega) hM
  have hM : MW D h ad σ0 (upd (upd (upd F 24 (nI 0)) 25 ((-106))) 27 (nI 0)) (uA A 26 ((A 26))) σ := by
    have e1 : upd (upd (upd F 24 (nI 0)) 25 ((-106))) 27 (nI 0) = upd (upd (upd F 24 ((0 : Int32))) 25 ((-106 : Int32))) 27 ((0 : Int32)) := by rfl
    have e2 : uA A 26 ((A 26)) = A := by exact uA_self A 26
    rw [e1, e2]; exact hM
  exact lp16 (13 + 1) 0 0 (-106) 0 (A 26) σ (by omega) (by omega) (rfl) (fun _ => ⟨Nat.zero_le _, rfl⟩) (by omega) (by omega) hM
theorem v_X1_fault (l : Launch) (D : DD) (b : Nat) {h : Nat} {ad : Nat → Nat} {σ0 : Hp} {F : Nat → Int32} {A : Nat → Nat → Int32} {σ : Hp} (hM : MW D h ad σ0 F A σ) {w5 : Nat → Int32} (hw5 : A 5 = w5) {w26 : Nat → Int32} (hw26 : A 26 = w26) (ln : Nat) (hln : F 6 = nI ln) (hln240 : ln ≤ 240) : CM l yX1_fault cX1_fault 1 (some .int) rX1_fault D b [.ref h] σ (PI (fun r σ' => r = (ftO (w5) (w26) ln).2.1 ∧ MW D h ad σ0 (upd (upd (upd F 24 (nI (ftO (w5) (w26) ln).1)) 25 (ftO (w5) (w26) ln).2.1) 27 (nI (ftO (w5) (w26) ln).2.2.1)) (uA A 26 (ftO (w5) (w26) ln).2.2.2) σ')) := by
  subst hw5
  subst hw26
  exact c_X1_fault l D b hM ln hln hln240
theorem ftO_m (t rd : Nat → Int32) (ln : Nat) : (ftO t rd ln).2.2.1 ≤ 12 := ft_m t ln 14 _ (Nat.zero_le _)
def clW (w : Nat → Int32) : Nat → Nat → Int32
  | 0 => w
  | i + 1 => upd (clW w i) (7 * i + 6) 0
def lrW (w rd : Nat → Int32) : Nat → Nat → Int32
  | 0 => w
  | i + 1 => upd (cpP (lrW w rd i) (fun y => rd (7 * i + y)) (7 * i) 6) (7 * i + 6) 1
def loadM (F : Nat → Int32) (A : Nat → Nat → Int32) (c ln : Nat) : MS :=
  if ¬ (ftO (A 5) (A 26) ln).2.1 = -106 then (-105, upd (upd (upd F 24 (nI (ftO (A 5) (A 26) ln).1)) 25 (ftO (A 5) (A 26) ln).2.1) 27 (nI (ftO (A 5) (A 26) ln).2.2.1), uA A 26 (ftO (A 5) (A 26) ln).2.2.2)
  else (nI (ftO (A 5) (A 26) ln).2.2.1, upd (upd (upd (upd F 24 (nI (ftO (A 5) (A 26) ln).1)) 25 (ftO (A 5) (A 26) ln).2.1) 27 (nI (ftO (A 5) (A 26) ln).2.2.1)) 2 (nI (kc c + 1)), uA (uA (uA A 26 (ftO (A 5) (A 26) ln).2.2.2) 1 (keepP (A 1) (A 0) c)) 0 (lrW (clW (A 0) 12) (ftO (A 5) (A 26) ln).2.2.2 (ftO (A 5) (A 26) ln).2.2.1))
def rX1_load : Room := { frames := 6, cells := 0, slots := 0, locals := 119 }
theorem k_X1_load : CV yX1_load cX1_load 3 (some .int) 0 := ⟨q2008, q2009, q81, q2010, by decide +kernel, by decide +kernel, by decide +kernel⟩
set_option maxHeartbeats 2000000 in
theorem c_X1_load (l : Launch) (D : DD) (b : Nat) {h : Nat} {ad : Nat → Nat} {σ0 : Hp} {F : Nat → Int32} {A : Nat → Nat → Int32} {σ : Hp} (hM : MW D h ad σ0 F A σ) (c : Nat) (hc : F 2 = nI c) (hc8 : c ≤ 8) (ln : Nat) (hln : F 6 = nI ln) (hln240 : ln ≤ 240) : CM l yX1_load cX1_load 3 (some .int) rX1_load D b [.ref h] σ (PI (fun r σ' => r = (loadM F A c ln).1 ∧ MW D h ad σ0 (loadM F A c ln).2.1 (loadM F A c ln).2.2 σ')) := by
  refine CM_of [some (.ref h), none, none] RX1 (by decide) rfl (cat_all rfl) (Nat.le_of_ble_eq_true rfl) rfl ?_
  intro z hz hR hnm
  refine g_aload_n rfl ld_0 1 rfl dX1_load_0 ?_
  refine g_callV (As := []) (rest := []) (ci := 1) (v_X1_fault z.l D b hM (w5 := A 5) rfl (w26 := A 26) rfl ln hln hln240) k_X1_fault q2011 hM.1 rfl rfl rfl rfl (Nat.le_of_ble_eq_true rfl) ⟨Nat.le_of_ble_eq_true rfl, Nat.le_of_ble_eq_true rfl⟩ 0 0 (Nat.le_of_ble_eq_true rfl) (Nat.le_of_ble_eq_true rfl) (Nat.le_of_ble_eq_true rfl) (Nat.le_of_ble_eq_true rfl) 4 rfl dX1_load_1 (fun v σ1 hq => ?_)
  obtain ⟨_, rfl, rfl, hM⟩ := hq
  revert σ1
  intro σ hM
  have hm12 := ftO_m (A 5) (A 26) ln
  obtain ⟨⟨fa, fw, m, rd⟩, hr⟩ : ∃ r9 : FS, (ftO (A 5) (A 26) ln) = r9 := ⟨_, rfl⟩
  rw [hr] at hM hm12 ⊢
  dsimp only at hM hm12 ⊢
  refine g_bipush (v := -106) (by decide) 6 rfl dX1_load_4 ?_
  refine g_icmp_eq 12 9 rfl (by decide) dX1_load_6 (fun c6 => ?_) (fun c6 => ?_)
  · refine g_aload_n rfl ld_0 13 rfl dX1_load_12 ?_
    refine g_callV (As := []) (rest := []) (ci := 1) (v_X1_keep z.l D b hM (w0 := A 0) rfl (w1 := A 1) rfl c hc hc8) k_X1_keep q1773 hM.1 rfl rfl rfl rfl (Nat.le_of_ble_eq_true rfl) ⟨Nat.le_of_ble_eq_true rfl, Nat.le_of_ble_eq_true rfl⟩ 0 0 (Nat.le_of_ble_eq_true rfl) (Nat.le_of_ble_eq_true rfl) (Nat.le_of_ble_eq_true rfl) (Nat.le_of_ble_eq_true rfl) 16 rfl dX1_load_13 (fun v σ1 hq => ?_)
    obtain ⟨rfl, hM⟩ := hq
    revert σ1
    intro σ hM
    refine g_iconst (v := 0) (by decide) 17 rfl dX1_load_16 ?_
    refine g_istore_n rfl sa_1 18 rfl dX1_load_17 ?_
    have lp18 : ∀ (fu i : Nat) (σ : Hp), i ≤ 12 → 12 + 1 ≤ i + fu → MW D h ad σ0 (upd (upd (upd (upd F 24 (nI fa)) 25 fw) 27 (nI m)) 2 (nI (kc c + 1))) (uA (uA (uA A 26 rd) 1 (keepP (A 1) (A 0) c)) 0 (clW (A 0) i)) σ → G z cX1_load RX1 3 rX1_load D b σ 0 0 18 [some (.ref h), some (.int (nI i)), none] [] := by
      intro fu
      induction fu with
      | zero => intros; omega
      | succ fu ih18 =>
        intro i σ hi hf  hM
        refine g_iload_n rfl ld_1 19 rfl dX1_load_18 ?_
        refine g_bipush (v := 12) (by decide) 21 rfl dX1_load_19 ?_
        refine g_icmp_geN (a := i) (c := 12) rfl (show (12 : Int32) = nI 12 from rfl) (by omega) (by omega) 43 24 rfl (by decide) dX1_load_21 (fun c21 => ?_) (fun c21 => ?_)
        · obtain rfl : i = 12 := by omega
          refine g_iconst (v := 0) (by decide) 44 rfl dX1_load_43 ?_
          refine g_istore_n rfl sa_1 45 rfl dX1_load_44 ?_
          have lp45 : ∀ (fu j : Nat) (σ : Hp), j ≤ m → m + 1 ≤ j + fu → MW D h ad σ0 (upd (upd (upd (upd F 24 (nI fa)) 25 fw) 27 (nI m)) 2 (nI (kc c + 1))) (uA (uA (uA A 26 rd) 1 (keepP (A 1) (A 0) c)) 0 (lrW (clW (A 0) 12) rd j)) σ → G z cX1_load RX1 3 rX1_load D b σ 0 0 45 [some (.ref h), some (.int (nI j)), none] [] := by
            intro fu
            induction fu with
            | zero => intros; omega
            | succ fu ih45 =>
              intro j σ hj hf  hM
              refine g_iload_n rfl ld_1 46 rfl dX1_load_45 ?_
              refine g_aload_n rfl ld_0 47 rfl dX1_load_46 ?_
              have g9 : (upd (upd (upd (upd F 24 (nI fa)) 25 fw) 27 (nI m)) 2 (nI (kc c + 1))) 27 = nI m := (Eq.trans (upd_n (by decide)) (upd_s _ _ _))
              refine g_getf (kf := 27) (v := .int (nI m)) hM.1 (mfs_get (by decide) g9) rfl in_X1 (by decide) q1688 rfl 50 rfl dX1_load_47 ?_
              refine g_icmp_geN (a := j) (c := m) rfl rfl (by omega) (by omega) 108 53 rfl (by decide) dX1_load_50 (fun c50 => ?_) (fun c50 => ?_)
              · have hjm : j = m := by omega
                rw [hjm] at hM
                refine G_lv dr_1 ?_
                refine g_aload_n rfl ld_0 109 rfl dX1_load_108 ?_
                have g9 : (upd (upd (upd (upd F 24 (nI fa)) 25 fw) 27 (nI m)) 2 (nI (kc c + 1))) 27 = nI m := (Eq.trans (upd_n (by decide)) (upd_s _ _ _))
                refine g_getf (kf := 27) (v := .int (nI m)) hM.1 (mfs_get (by decide) g9) rfl in_X1 (by decide) q1688 rfl 112 rfl dX1_load_109 ?_
                have e9 : loadM F A c ln = (nI m, upd (upd (upd (upd F 24 (nI fa)) 25 fw) 27 (nI m)) 2 (nI (kc c + 1)), uA (uA (uA A 26 rd) 1 (keepP (A 1) (A 0) c)) 0 (lrW (clW (A 0) 12) rd m)) := by unfold loadM; rw [hr]; dsimp only; rw [if_neg (fun q => q c6)]
                exact g_iret hR rfl (Nat.le_of_ble_eq_true rfl) (Nat.le_of_ble_eq_true rfl) ⟨_, rfl, by rw [e9], by rw [e9]; exact hM⟩ dX1_load_112
              · refine g_iconst (v := 0) (by decide) 54 rfl dX1_load_53 ?_
                refine g_istore_n rfl sa_2 55 rfl dX1_load_54 ?_
                have lp55 : ∀ (fu k : Nat) (σ : Hp), k ≤ 6 → 6 + 1 ≤ k + fu → MW D h ad σ0 (upd (upd (upd (upd F 24 (nI fa)) 25 fw) 27 (nI m)) 2 (nI (kc c + 1))) (uA (uA (uA A 26 rd) 1 (keepP (A 1) (A 0) c)) 0 (cpP (lrW (clW (A 0) 12) rd j) (fun y => rd (7 * j + y)) (7 * j) k)) σ → G z cX1_load RX1 3 rX1_load D b σ 0 0 55 [some (.ref h), some (.int (nI j)), some (.int (nI k))] [] := by
                  intro fu
                  induction fu with
                  | zero => intros; omega
                  | succ fu ih55 =>
                    intro k σ hk hf  hM
                    refine g_iload_n rfl ld_2 56 rfl dX1_load_55 ?_
                    refine g_bipush (v := 6) (by decide) 58 rfl dX1_load_56 ?_
                    refine g_icmp_geN (a := k) (c := 6) rfl (show (6 : Int32) = nI 6 from rfl) (by omega) (by omega) 89 61 rfl (by decide) dX1_load_58 (fun c58 => ?_) (fun c58 => ?_)
                    · obtain rfl : k = 6 := by omega
                      refine g_aload_n rfl ld_0 90 rfl dX1_load_89 ?_
                      refine g_getf (kf := 0) (v := .ref (ad 0)) hM.1 rfl rfl in_X1 (by decide) q1661 rfl 93 rfl dX1_load_90 ?_
                      refine g_bipush (v := 7) (by decide) 95 rfl dX1_load_93 ?_
                      refine g_iload_n rfl ld_1 96 rfl dX1_load_95 ?_
                      refine g_imulN (a := 7) (c := j) (show (7 : Int32) = nI 7 from rfl) rfl 97 rfl dX1_load_96 ?_
                      refine g_bipush (v := 6) (by decide) 99 rfl dX1_load_97 ?_
                      refine g_iaddN (a := (7 * j)) (c := 6) rfl (show (6 : Int32) = nI 6 from rfl) 100 rfl dX1_load_99 ?_
                      refine g_iconst (v := 1) (by decide) 101 rfl dX1_load_100 ?_
                      refine gm_astU (j := ((7 * j) + 6)) 0 (by decide) (by decide) hM rfl (by simp only [msz]; omega) 102 rfl dX1_load_101 (fun σ hM => ?_)
                      refine g_iinc (v := nI (j + 1)) ld_1 (nI_1 _) sa_1 105 rfl dX1_load_102 ?_
                      refine g_goto 45 (by decide) dX1_load_105 ?_
                      refine G_lv dr_2 ?_
                      have hM : MW D h ad σ0 (upd (upd (upd (upd F 24 (nI fa)) 25 fw) 27 (nI m)) 2 (nI (kc c + 1))) (uA (uA (uA A 26 rd) 1 (keepP (A 1) (A 0) c)) 0 (lrW (clW (A 0) 12) rd ((j + 1)))) σ := by
                        have e2 : uA (uA (uA A 26 rd) 1 (keepP (A 1) (A 0) c)) 0 (lrW (clW (A 0) 12) rd ((j + 1))) = uA (uA (uA A 26 rd) 1 (keepP (A 1) (A 0) c)) 0 (upd (cpP (lrW (clW (A 0) 12) rd j) (fun y => rd (7 * j + y)) (7 * j) 6) (((7 * j) + 6)) ((1 : Int32))) := by rw [lrW]
                        rw [e2]; exact hM
                      exact ih45 (j + 1) σ (by omega) (by omega)  hM
                    · refine g_aload_n rfl ld_0 62 rfl dX1_load_61 ?_
                      refine g_getf (kf := 0) (v := .ref (ad 0)) hM.1 rfl rfl in_X1 (by decide) q1661 rfl 65 rfl dX1_load_62 ?_
                      refine g_bipush (v := 7) (by decide) 67 rfl dX1_load_65 ?_
                      refine g_iload_n rfl ld_1 68 rfl dX1_load_67 ?_
                      refine g_imulN (a := 7) (c := j) (show (7 : Int32) = nI 7 from rfl) rfl 69 rfl dX1_load_68 ?_
                      refine g_iload_n rfl ld_2 70 rfl dX1_load_69 ?_
                      refine g_iaddN (a := (7 * j)) (c := k) rfl rfl 71 rfl dX1_load_70 ?_
                      refine g_aload_n rfl ld_0 72 rfl dX1_load_71 ?_
                      refine g_getf (kf := 26) (v := .ref (ad 26)) hM.1 rfl rfl in_X1 (by decide) q1687 rfl 75 rfl dX1_load_72 ?_
                      refine g_bipush (v := 7) (by decide) 77 rfl dX1_load_75 ?_
                      refine g_iload_n rfl ld_1 78 rfl dX1_load_77 ?_
                      refine g_imulN (a := 7) (c := j) (show (7 : Int32) = nI 7 from rfl) rfl 79 rfl dX1_load_78 ?_
                      refine g_iload_n rfl ld_2 80 rfl dX1_load_79 ?_
                      refine g_iaddN (a := (7 * j)) (c := k) rfl rfl 81 rfl dX1_load_80 ?_
                      refine g_iald (j := ((7 * j) + k)) (f := rd) hM.a26 rfl (by omega) (by decide) 82 rfl dX1_load_81 ?_
                      refine gm_astU (j := ((7 * j) + k)) 0 (by decide) (by decide) hM rfl (by simp only [msz]; omega) 83 rfl dX1_load_82 (fun σ hM => ?_)
                      refine g_iinc (v := nI (k + 1)) ld_2 (nI_1 _) sa_2 86 rfl dX1_load_83 ?_
                      refine g_goto 55 (by decide) dX1_load_86 ?_
                      have hM : MW D h ad σ0 (upd (upd (upd (upd F 24 (nI fa)) 25 fw) 27 (nI m)) 2 (nI (kc c + 1))) (uA (uA (uA A 26 rd) 1 (keepP (A 1) (A 0) c)) 0 (cpP (lrW (clW (A 0) 12) rd j) (fun y => rd (7 * j + y)) (7 * j) ((k + 1)))) σ := by
                        have e2 : uA (uA (uA A 26 rd) 1 (keepP (A 1) (A 0) c)) 0 (cpP (lrW (clW (A 0) 12) rd j) (fun y => rd (7 * j + y)) (7 * j) ((k + 1))) = uA (uA (uA A 26 rd) 1 (keepP (A 1) (A 0) c)) 0 (upd (cpP (lrW (clW (A 0) 12) rd j) (fun y => rd (7 * j + y)) (7 * j) k) (((7 * j) + k)) (rd (((7 * j) + k)))) := by rw [cpP_s]
                        rw [e2]; exact hM
                      exact ih55 (k + 1) σ (by omega) (by omega)  hM
                have hM : MW D h ad σ0 (upd (upd (upd (upd F 24 (nI fa)) 25 fw) 27 (nI m)) 2 (nI (kc c + 1))) (uA (uA (uA A 26 rd) 1 (keepP (A 1) (A 0) c)) 0 (cpP (lrW (clW (A 0) 12) rd j) (fun y => rd (7 * j + y)) (7 * j) 0)) σ := by
                  have e2 : uA (uA (uA A 26 rd) 1 (keepP (A 1) (A 0) c)) 0 (cpP (lrW (clW (A 0) 12) rd j) (fun y => rd (7 * j + y)) (7 * j) 0) = uA (uA (uA A 26 rd) 1 (keepP (A 1) (A 0) c)) 0 (lrW (clW (A 0) 12) rd j) := by rw [cpP_0]
                  rw [e2]; exact hM
                exact lp55 (6 + 1) 0 σ (by omega) (by omega)  hM
          have hM : MW D h ad σ0 (upd (upd (upd (upd F 24 (nI fa)) 25 fw) 27 (nI m)) 2 (nI (kc c + 1))) (uA (uA (uA A 26 rd) 1 (keepP (A 1) (A 0) c)) 0 (lrW (clW (A 0) 12) rd 0)) σ := by
            have e2 : uA (uA (uA A 26 rd) 1 (keepP (A 1) (A 0) c)) 0 (lrW (clW (A 0) 12) rd 0) = uA (uA (uA A 26 rd) 1 (keepP (A 1) (A 0) c)) 0 (clW (A 0) 12) := by rfl
            rw [e2]; exact hM
          exact lp45 (m + 1) 0 σ (by omega) (by omega)  hM
        · refine g_aload_n rfl ld_0 25 rfl dX1_load_24 ?_
          refine g_getf (kf := 0) (v := .ref (ad 0)) hM.1 rfl rfl in_X1 (by decide) q1661 rfl 28 rfl dX1_load_25 ?_
          refine g_bipush (v := 7) (by decide) 30 rfl dX1_load_28 ?_
          refine g_iload_n rfl ld_1 31 rfl dX1_load_30 ?_
          refine g_imulN (a := 7) (c := i) (show (7 : Int32) = nI 7 from rfl) rfl 32 rfl dX1_load_31 ?_
          refine g_bipush (v := 6) (by decide) 34 rfl dX1_load_32 ?_
          refine g_iaddN (a := (7 * i)) (c := 6) rfl (show (6 : Int32) = nI 6 from rfl) 35 rfl dX1_load_34 ?_
          refine g_iconst (v := 0) (by decide) 36 rfl dX1_load_35 ?_
          refine gm_astU (j := ((7 * i) + 6)) 0 (by decide) (by decide) hM rfl (by simp only [msz]; omega) 37 rfl dX1_load_36 (fun σ hM => ?_)
          refine g_iinc (v := nI (i + 1)) ld_1 (nI_1 _) sa_1 40 rfl dX1_load_37 ?_
          refine g_goto 18 (by decide) dX1_load_40 ?_
          have hM : MW D h ad σ0 (upd (upd (upd (upd F 24 (nI fa)) 25 fw) 27 (nI m)) 2 (nI (kc c + 1))) (uA (uA (uA A 26 rd) 1 (keepP (A 1) (A 0) c)) 0 (clW (A 0) ((i + 1)))) σ := by
            have e2 : uA (uA (uA A 26 rd) 1 (keepP (A 1) (A 0) c)) 0 (clW (A 0) ((i + 1))) = uA (uA (uA A 26 rd) 1 (keepP (A 1) (A 0) c)) 0 (upd (clW (A 0) i) (((7 * i) + 6)) ((0 : Int32))) := by rw [clW]
            rw [e2]; exact hM
          exact ih18 (i + 1) σ (by omega) (by omega)  hM
    have hM : MW D h ad σ0 (upd (upd (upd (upd F 24 (nI fa)) 25 fw) 27 (nI m)) 2 (nI (kc c + 1))) (uA (uA (uA A 26 rd) 1 (keepP (A 1) (A 0) c)) 0 (clW (A 0) 0)) σ := by
      have e2 : uA (uA (uA A 26 rd) 1 (keepP (A 1) (A 0) c)) 0 (clW (A 0) 0) = uA (uA A 26 rd) 1 (keepP (A 1) (A 0) c) := by funext x9; by_cases h9_0 : x9 = 0; (subst h9_0; simp [uA_ap, clW]); by_cases h9_1 : x9 = 1; (subst h9_1; simp [uA_ap, clW]); by_cases h9_26 : x9 = 26; (subst h9_26; simp [uA_ap, clW]); simp [uA_ap, h9_0, h9_1, h9_26]
      rw [e2]; exact hM
    exact lp18 (12 + 1) 0 σ (by omega) (by omega)  hM
  · refine g_bipush (v := -105) (by decide) 11 rfl dX1_load_9 ?_
    have e9 : loadM F A c ln = ((-105 : Int32), upd (upd (upd F 24 (nI fa)) 25 fw) 27 (nI m), uA A 26 rd) := by unfold loadM; rw [hr]; dsimp only; rw [if_pos c6]
    exact g_iret hR rfl (Nat.le_of_ble_eq_true rfl) (Nat.le_of_ble_eq_true rfl) ⟨_, rfl, by rw [e9], by rw [e9]; exact hM⟩ dX1_load_11
def saveM (F : Nat → Int32) (A : Nat → Nat → Int32) (v : Int32) : MS :=
  if inR v 0 1 = false then (-102, F, A) else (manyR (A 0), upd F 4 (F 4 ||| 1 <<< (v &&& 31)), uA A 3 (cpP (A 3) (A 0) (84 * v.toNatClampNeg) 84))
def restoreM (F : Nat → Int32) (A : Nat → Nat → Int32) (v : Int32) : MS :=
  if inR v 0 1 = false then (-102, F, A) else if (F 4 >>> (v &&& 31)) &&& 1 = 0 then (-105, F, A)
  else (manyR (ldP (A 0) (A 3) (84 * v.toNatClampNeg) 84), upd F 2 0, uA A 0 (ldP (A 0) (A 3) (84 * v.toNatClampNeg) 84))
def rX1_save : Room := { frames := 2, cells := 0, slots := 0, locals := 34 }
theorem k_X1_save : CV yX1_save cX1_save 3 (some .int) 1 := ⟨q2013, q2014, q81, q2015, by decide +kernel, by decide +kernel, by decide +kernel⟩
set_option maxHeartbeats 400000 in
theorem c_X1_save (l : Launch) (D : DD) (b : Nat) {h : Nat} {ad : Nat → Nat} {σ0 : Hp} {F : Nat → Int32} {A : Nat → Nat → Int32} {σ : Hp} (hM : MW D h ad σ0 F A σ) (v : Int32) : CM l yX1_save cX1_save 3 (some .int) rX1_save D b [.ref h, .int v] σ (PI (fun r σ' => r = (saveM F A v).1 ∧ MW D h ad σ0 (saveM F A v).2.1 (saveM F A v).2.2 σ')) := by
  refine CM_of [some (.ref h), some (.int v), none] RX1 (by decide) rfl (cat_all rfl) (Nat.le_of_ble_eq_true rfl) rfl ?_
  intro z hz hR hnm
  refine g_iload_n rfl ld_1 1 rfl dX1_save_0 ?_
  refine g_iconst (v := 0) (by decide) 2 rfl dX1_save_1 ?_
  refine g_iconst (v := 1) (by decide) 3 rfl dX1_save_2 ?_
  refine g_callS (As := [.int v, .int ((0 : Int32)), .int ((1 : Int32))]) (rest := []) (c_X1_isIn z.l D b (σ := σ) v ((0 : Int32)) ((1 : Int32))) k_X1_isIn q1763 rfl rfl (Nat.le_of_ble_eq_true rfl) ⟨Nat.le_of_ble_eq_true rfl, Nat.le_of_ble_eq_true rfl⟩ 0 0 (Nat.le_of_ble_eq_true rfl) (Nat.le_of_ble_eq_true rfl) (Nat.le_of_ble_eq_true rfl) (Nat.le_of_ble_eq_true rfl) 6 rfl dX1_save_3 (fun v σ1 hq => ?_)
  obtain ⟨rfl, rfl⟩ := hq
  refine g_if_neB 12 9 rfl (by decide) dX1_save_6 (fun c6 => ?_) (fun c6 => ?_)
  · obtain ⟨j, hj, rfl⟩ := inR_nat (N := 1) c6 (by decide)
    have hclj := nI_clamp (show j < 2 ^ 31 by omega)
    refine g_iconst (v := 0) (by decide) 13 rfl dX1_save_12 ?_
    refine g_istore_n rfl sa_2 14 rfl dX1_save_13 ?_
    have lp14 : ∀ (fu i : Nat) (σ : Hp), i ≤ 84 → 84 + 1 ≤ i + fu → MW D h ad σ0 F (uA A 3 (cpP (A 3) (A 0) (84 * j) i)) σ → G z cX1_save RX1 3 rX1_save D b σ 0 0 14 [some (.ref h), some (.int (nI j)), some (.int (nI i))] [] := by
      intro fu
      induction fu with
      | zero => intros; omega
      | succ fu ih14 =>
        intro i σ hi hf  hM
        refine g_iload_n rfl ld_2 15 rfl dX1_save_14 ?_
        refine g_bipush (v := 84) (by decide) 17 rfl dX1_save_15 ?_
        refine g_icmp_geN (a := i) (c := 84) rfl (show (84 : Int32) = nI 84 from rfl) (by omega) (by omega) 43 20 rfl (by decide) dX1_save_17 (fun c17 => ?_) (fun c17 => ?_)
        · obtain rfl : i = 84 := by omega
          refine g_aload_n rfl ld_0 44 rfl dX1_save_43 ?_
          refine g_dup rfl 45 rfl dX1_save_44 ?_
          refine g_getf (kf := 4) (v := .int (F 4)) hM.1 rfl rfl in_X1 (by decide) q1665 rfl 48 rfl dX1_save_45 ?_
          refine g_iconst (v := 1) (by decide) 49 rfl dX1_save_48 ?_
          refine g_iload_n rfl ld_1 50 rfl dX1_save_49 ?_
          refine g_ishl 51 rfl dX1_save_50 ?_
          refine g_ior 52 rfl dX1_save_51 ?_
          refine gm_put (v := (F 4) ||| (((1 : Int32)) <<< ((nI j) &&& 31))) 4 (by decide) hM q1665 55 rfl dX1_save_52 (fun σ hM => ?_)
          refine g_aload_n rfl ld_0 56 rfl dX1_save_55 ?_
          refine g_callV (As := []) (rest := []) (ci := 1) (v_X1_boxes z.l D b hM (w0 := A 0) rfl ) k_X1_boxes q1785 hM.1 rfl rfl rfl rfl (Nat.le_of_ble_eq_true rfl) ⟨Nat.le_of_ble_eq_true rfl, Nat.le_of_ble_eq_true rfl⟩ 0 0 (Nat.le_of_ble_eq_true rfl) (Nat.le_of_ble_eq_true rfl) (Nat.le_of_ble_eq_true rfl) (Nat.le_of_ble_eq_true rfl) 59 rfl dX1_save_56 (fun v σ1 hq => ?_)
          obtain ⟨rfl, rfl⟩ := hq
          have e9 : saveM F A (nI j) = (manyR (A 0), upd F 4 ((F 4) ||| (((1 : Int32)) <<< ((nI j) &&& 31))), uA A 3 (cpP (A 3) (A 0) (84 * j) 84)) := by rw [saveM, if_neg (by simp [c6]), hclj]
          exact g_iret hR rfl (Nat.le_of_ble_eq_true rfl) (Nat.le_of_ble_eq_true rfl) ⟨_, rfl, by rw [e9], by rw [e9]; exact hM⟩ dX1_save_59
        · refine g_aload_n rfl ld_0 21 rfl dX1_save_20 ?_
          refine g_getf (kf := 3) (v := .ref (ad 3)) hM.1 rfl rfl in_X1 (by decide) q1664 rfl 24 rfl dX1_save_21 ?_
          refine g_bipush (v := 84) (by decide) 26 rfl dX1_save_24 ?_
          refine g_iload_n rfl ld_1 27 rfl dX1_save_26 ?_
          refine g_imulN (a := 84) (c := j) (show (84 : Int32) = nI 84 from rfl) rfl 28 rfl dX1_save_27 ?_
          refine g_iload_n rfl ld_2 29 rfl dX1_save_28 ?_
          refine g_iaddN (a := (84 * j)) (c := i) rfl rfl 30 rfl dX1_save_29 ?_
          refine g_aload_n rfl ld_0 31 rfl dX1_save_30 ?_
          refine g_getf (kf := 0) (v := .ref (ad 0)) hM.1 rfl rfl in_X1 (by decide) q1661 rfl 34 rfl dX1_save_31 ?_
          refine g_iload_n rfl ld_2 35 rfl dX1_save_34 ?_
          refine g_iald (j := i) (f := A 0) hM.a0 rfl (by omega) (by decide) 36 rfl dX1_save_35 ?_
          refine gm_astU (j := ((84 * j) + i)) 3 (by decide) (by decide) hM rfl (by simp only [msz]; omega) 37 rfl dX1_save_36 (fun σ hM => ?_)
          refine g_iinc (v := nI (i + 1)) ld_2 (nI_1 _) sa_2 40 rfl dX1_save_37 ?_
          refine g_goto 14 (by decide) dX1_save_40 ?_
          have hM : MW D h ad σ0 F (uA A 3 (cpP (A 3) (A 0) (84 * j) ((i + 1)))) σ := by
            have e2 : uA A 3 (cpP (A 3) (A 0) (84 * j) ((i + 1))) = uA A 3 (upd (cpP (A 3) (A 0) (84 * j) i) (((84 * j) + i)) ((A 0) i)) := by rw [cpP_s]
            rw [e2]; exact hM
          exact ih14 (i + 1) σ (by omega) (by omega)  hM
    have hM : MW D h ad σ0 F (uA A 3 (cpP (A 3) (A 0) (84 * j) 0)) σ := by
      have e2 : uA A 3 (cpP (A 3) (A 0) (84 * j) 0) = A := by rw [cpP_0]; exact uA_self A 3
      rw [e2]; exact hM
    exact lp14 (84 + 1) 0 σ (by omega) (by omega)  hM
  · refine g_bipush (v := -102) (by decide) 11 rfl dX1_save_9 ?_
    have e9 : saveM F A v = ((-102 : Int32), F, A) := by rw [saveM, if_pos c6]
    exact g_iret hR rfl (Nat.le_of_ble_eq_true rfl) (Nat.le_of_ble_eq_true rfl) ⟨_, rfl, by rw [e9], by rw [e9]; exact hM⟩ dX1_save_11
def rX1_restore : Room := { frames := 2, cells := 0, slots := 0, locals := 34 }
theorem k_X1_restore : CV yX1_restore cX1_restore 3 (some .int) 1 := ⟨q2017, q2018, q81, q2019, by decide +kernel, by decide +kernel, by decide +kernel⟩
set_option maxHeartbeats 400000 in
theorem c_X1_restore (l : Launch) (D : DD) (b : Nat) {h : Nat} {ad : Nat → Nat} {σ0 : Hp} {F : Nat → Int32} {A : Nat → Nat → Int32} {σ : Hp} (hM : MW D h ad σ0 F A σ) (v : Int32) : CM l yX1_restore cX1_restore 3 (some .int) rX1_restore D b [.ref h, .int v] σ (PI (fun r σ' => r = (restoreM F A v).1 ∧ MW D h ad σ0 (restoreM F A v).2.1 (restoreM F A v).2.2 σ')) := by
  refine CM_of [some (.ref h), some (.int v), none] RX1 (by decide) rfl (cat_all rfl) (Nat.le_of_ble_eq_true rfl) rfl ?_
  intro z hz hR hnm
  refine g_iload_n rfl ld_1 1 rfl dX1_restore_0 ?_
  refine g_iconst (v := 0) (by decide) 2 rfl dX1_restore_1 ?_
  refine g_iconst (v := 1) (by decide) 3 rfl dX1_restore_2 ?_
  refine g_callS (As := [.int v, .int ((0 : Int32)), .int ((1 : Int32))]) (rest := []) (c_X1_isIn z.l D b (σ := σ) v ((0 : Int32)) ((1 : Int32))) k_X1_isIn q1763 rfl rfl (Nat.le_of_ble_eq_true rfl) ⟨Nat.le_of_ble_eq_true rfl, Nat.le_of_ble_eq_true rfl⟩ 0 0 (Nat.le_of_ble_eq_true rfl) (Nat.le_of_ble_eq_true rfl) (Nat.le_of_ble_eq_true rfl) (Nat.le_of_ble_eq_true rfl) 6 rfl dX1_restore_3 (fun v σ1 hq => ?_)
  obtain ⟨rfl, rfl⟩ := hq
  refine g_if_neB 12 9 rfl (by decide) dX1_restore_6 (fun c6 => ?_) (fun c6 => ?_)
  · obtain ⟨j, hj, rfl⟩ := inR_nat (N := 1) c6 (by decide)
    have hclj := nI_clamp (show j < 2 ^ 31 by omega)
    refine g_aload_n rfl ld_0 13 rfl dX1_restore_12 ?_
    refine g_getf (kf := 4) (v := .int (F 4)) hM.1 rfl rfl in_X1 (by decide) q1665 rfl 16 rfl dX1_restore_13 ?_
    refine g_iload_n rfl ld_1 17 rfl dX1_restore_16 ?_
    refine g_ishr 18 rfl dX1_restore_17 ?_
    refine g_iconst (v := 1) (by decide) 19 rfl dX1_restore_18 ?_
    refine g_iand 20 rfl dX1_restore_19 ?_
    refine g_if_ne 26 23 rfl (by decide) dX1_restore_20 (fun c20 => ?_) (fun c20 => ?_)
    · refine g_iconst (v := 0) (by decide) 27 rfl dX1_restore_26 ?_
      refine g_istore_n rfl sa_2 28 rfl dX1_restore_27 ?_
      have lp28 : ∀ (fu i : Nat) (σ : Hp), i ≤ 84 → 84 + 1 ≤ i + fu → MW D h ad σ0 F (uA A 0 (ldP (A 0) (A 3) (84 * j) i)) σ → G z cX1_restore RX1 3 rX1_restore D b σ 0 0 28 [some (.ref h), some (.int (nI j)), some (.int (nI i))] [] := by
        intro fu
        induction fu with
        | zero => intros; omega
        | succ fu ih28 =>
          intro i σ hi hf  hM
          refine g_iload_n rfl ld_2 29 rfl dX1_restore_28 ?_
          refine g_bipush (v := 84) (by decide) 31 rfl dX1_restore_29 ?_
          refine g_icmp_geN (a := i) (c := 84) rfl (show (84 : Int32) = nI 84 from rfl) (by omega) (by omega) 57 34 rfl (by decide) dX1_restore_31 (fun c31 => ?_) (fun c31 => ?_)
          · obtain rfl : i = 84 := by omega
            refine g_aload_n rfl ld_0 58 rfl dX1_restore_57 ?_
            refine g_iconst (v := 0) (by decide) 59 rfl dX1_restore_58 ?_
            refine gm_put (v := (0 : Int32)) 2 (by decide) hM q1663 62 rfl dX1_restore_59 (fun σ hM => ?_)
            refine g_aload_n rfl ld_0 63 rfl dX1_restore_62 ?_
            refine g_callV (As := []) (rest := []) (ci := 1) (v_X1_boxes z.l D b hM (w0 := ldP (A 0) (A 3) (84 * j) 84) rfl ) k_X1_boxes q1785 hM.1 rfl rfl rfl rfl (Nat.le_of_ble_eq_true rfl) ⟨Nat.le_of_ble_eq_true rfl, Nat.le_of_ble_eq_true rfl⟩ 0 0 (Nat.le_of_ble_eq_true rfl) (Nat.le_of_ble_eq_true rfl) (Nat.le_of_ble_eq_true rfl) (Nat.le_of_ble_eq_true rfl) 66 rfl dX1_restore_63 (fun v σ1 hq => ?_)
            obtain ⟨rfl, rfl⟩ := hq
            have e9 : restoreM F A (nI j) = (manyR (ldP (A 0) (A 3) (84 * j) 84), upd F 2 ((0 : Int32)), uA A 0 (ldP (A 0) (A 3) (84 * j) 84)) := by rw [restoreM, if_neg (by simp [c6]), if_neg c20, hclj]
            exact g_iret hR rfl (Nat.le_of_ble_eq_true rfl) (Nat.le_of_ble_eq_true rfl) ⟨_, rfl, by rw [e9], by rw [e9]; exact hM⟩ dX1_restore_66
          · refine g_aload_n rfl ld_0 35 rfl dX1_restore_34 ?_
            refine g_getf (kf := 0) (v := .ref (ad 0)) hM.1 rfl rfl in_X1 (by decide) q1661 rfl 38 rfl dX1_restore_35 ?_
            refine g_iload_n rfl ld_2 39 rfl dX1_restore_38 ?_
            refine g_aload_n rfl ld_0 40 rfl dX1_restore_39 ?_
            refine g_getf (kf := 3) (v := .ref (ad 3)) hM.1 rfl rfl in_X1 (by decide) q1664 rfl 43 rfl dX1_restore_40 ?_
            refine g_bipush (v := 84) (by decide) 45 rfl dX1_restore_43 ?_
            refine g_iload_n rfl ld_1 46 rfl dX1_restore_45 ?_
            refine g_imulN (a := 84) (c := j) (show (84 : Int32) = nI 84 from rfl) rfl 47 rfl dX1_restore_46 ?_
            refine g_iload_n rfl ld_2 48 rfl dX1_restore_47 ?_
            refine g_iaddN (a := (84 * j)) (c := i) rfl rfl 49 rfl dX1_restore_48 ?_
            refine g_iald (j := ((84 * j) + i)) (f := A 3) hM.a3 rfl (by omega) (by decide) 50 rfl dX1_restore_49 ?_
            refine gm_astU (j := i) 0 (by decide) (by decide) hM rfl (by simp only [msz]; omega) 51 rfl dX1_restore_50 (fun σ hM => ?_)
            refine g_iinc (v := nI (i + 1)) ld_2 (nI_1 _) sa_2 54 rfl dX1_restore_51 ?_
            refine g_goto 28 (by decide) dX1_restore_54 ?_
            have hM : MW D h ad σ0 F (uA A 0 (ldP (A 0) (A 3) (84 * j) ((i + 1)))) σ := by
              have e2 : uA A 0 (ldP (A 0) (A 3) (84 * j) ((i + 1))) = uA A 0 (upd (ldP (A 0) (A 3) (84 * j) i) i ((A 3) (((84 * j) + i)))) := by rw [ldP_s]
              rw [e2]; exact hM
            exact ih28 (i + 1) σ (by omega) (by omega)  hM
      have hM : MW D h ad σ0 F (uA A 0 (ldP (A 0) (A 3) (84 * j) 0)) σ := by
        have e2 : uA A 0 (ldP (A 0) (A 3) (84 * j) 0) = A := by rw [ldP_0, uA_self]
        rw [e2]; exact hM
      exact lp28 (84 + 1) 0 σ (by omega) (by omega)  hM
    · refine g_bipush (v := -105) (by decide) 25 rfl dX1_restore_23 ?_
      have e9 : restoreM F A (nI j) = ((-105 : Int32), F, A) := by rw [restoreM, if_neg (by simp [c6]), if_pos c20]
      exact g_iret hR rfl (Nat.le_of_ble_eq_true rfl) (Nat.le_of_ble_eq_true rfl) ⟨_, rfl, by rw [e9], by rw [e9]; exact hM⟩ dX1_restore_25
  · refine g_bipush (v := -102) (by decide) 11 rfl dX1_restore_9 ?_
    have e9 : restoreM F A v = ((-102 : Int32), F, A) := by rw [restoreM, if_pos c6]
    exact g_iret hR rfl (Nat.le_of_ble_eq_true rfl) (Nat.le_of_ble_eq_true rfl) ⟨_, rfl, by rw [e9], by rw [e9]; exact hM⟩ dX1_restore_11
