/-! THE REFERENCE, part 12: look, seen, face, through, area -/
set_option maxRecDepth 100000
theorem mfs_get {ad : Nat → Nat} {F : Nat → Int32} {k : Nat} {v : Int32} (hk : k ∈ miL) (e : F k = v) : (mfs ad F)[k]? = some (.int v) := by
  subst e
  simp only [miL, List.mem_cons, List.not_mem_nil, or_false] at hk
  rcases hk with h | h | h | h | h | h | h | h | h | h | h | h | h <;> subst h <;> rfl
def oM (n : Nat) : Int32 := if n = 12 then -106 else nI n
theorem oM_12 : oM 12 = -106 := rfl
theorem oM_lt {n : Nat} (h : n < 12) : oM n = nI n := by rw [oM, if_neg (by omega)]
theorem oM_eq {n : Nat} (h : n ≤ 12) : oM n = -106 ↔ n = 12 := by
  constructor
  · intro e
    rcases Nat.lt_or_ge n 12 with h1 | h1
    · rw [oM_lt h1] at e
      exact absurd e (nI_n106 (by omega))
    · omega
  · rintro rfl; rfl
def lkN (w : Nat → Int32) (u v s : Int32) : Nat → Nat × Int32 × Int32
  | 0 => (12, 0, 0)
  | k + 1 => if (isBx w (nI k) && hitR w (7 * k) u v s) = true then
      (if (lkN w u v s k).1 = 12 ∨ (lkN w u v s k).2.1 < farR w (7 * k) u v s then (k, farR w (7 * k) u v s, (lkN w u v s k).2.2 + 1) else ((lkN w u v s k).1, (lkN w u v s k).2.1, (lkN w u v s k).2.2 + 1))
    else lkN w u v s k
theorem lk_le (w : Nat → Int32) (u v s : Int32) : ∀ k, (lkN w u v s k).1 = 12 ∨ (lkN w u v s k).1 < k
  | 0 => Or.inl rfl
  | k + 1 => by
    have := lk_le w u v s k
    rw [lkN]
    split
    · split
      · exact Or.inr (Nat.lt_succ_self k)
      · exact this.imp id (fun h => Nat.lt_succ_of_lt h)
    · exact this.imp id (fun h => Nat.lt_succ_of_lt h)
theorem lk_le12 (w : Nat → Int32) (u v s : Int32) {k : Nat} (hk : k ≤ 12) : (lkN w u v s k).1 ≤ 12 := by
  have := lk_le w u v s k; omega
def fc19 (w : Nat → Int32) (u v s : Int32) (n : Nat) (f19 : Int32) : Int32 := if n = 12 then f19 else nI (sfR w (7 * n) u v s)

def rX1_look : Room := { frames := 3, cells := 0, slots := 0, locals := 55 }
theorem k_X1_look : CV yX1_look cX1_look 7 (some .int) 3 := ⟨q1941, qs68, q81, q1942, by decide +kernel, by decide +kernel, by decide +kernel⟩
set_option maxHeartbeats 2000000 in
theorem c_X1_look (l : Launch) (D : DD) (b : Nat) {h : Nat} {ad : Nat → Nat} {σ0 : Hp} {F : Nat → Int32} {A : Nat → Nat → Int32} {σ : Hp} (hM : MW D h ad σ0 F A σ) (u v s : Int32) : CM l yX1_look cX1_look 7 (some .int) rX1_look D b [.ref h, .int u, .int v, .int s] σ (PI (fun r σ' => ∃ f17 f18, r = oM (lkN (A 0) u v s 12).1 ∧ MW D h ad σ0 (upd (upd (upd (upd F 20 (lkN (A 0) u v s 12).2.2) 17 f17) 18 f18) 19 (fc19 (A 0) u v s (lkN (A 0) u v s 12).1 (F 19))) A σ')) := by
  refine CM_of [some (.ref h), some (.int u), some (.int v), some (.int s), none, none, none] RX1 (by decide) rfl (cat_all rfl) (Nat.le_of_ble_eq_true rfl) rfl ?_
  intro z hz hR hnm
  refine g_bipush (v := -106) (by decide) 2 rfl dX1_look_0 ?_
  refine g_istore sa_4 4 rfl dX1_look_2 ?_
  refine g_iconst (v := 0) (by decide) 5 rfl dX1_look_4 ?_
  refine g_istore sa_5 7 rfl dX1_look_5 ?_
  refine g_aload_n rfl ld_0 8 rfl dX1_look_7 ?_
  refine g_iconst (v := 0) (by decide) 9 rfl dX1_look_8 ?_
  refine gm_put (v := (0 : Int32)) 20 (by decide) hM q1681 12 rfl dX1_look_9 (fun σ hM => ?_)
  refine g_iconst (v := 0) (by decide) 13 rfl dX1_look_12 ?_
  refine g_istore sa_6 15 rfl dX1_look_13 ?_
  have lp15 : ∀ (fu i : Nat) (f17 f18 : Int32) (x4 : Int32) (x5 : Int32) (σ : Hp), i ≤ 12 → 12 + 1 ≤ i + fu → (x4 = oM (lkN (A 0) u v s i).1) → (x5 = (lkN (A 0) u v s i).2.1) → MW D h ad σ0 (upd (upd (upd (upd F 20 ((lkN (A 0) u v s i).2.2)) 17 f17) 18 f18) 19 (fc19 (A 0) u v s (lkN (A 0) u v s i).1 (F 19))) A σ → G z cX1_look RX1 7 rX1_look D b σ 0 0 15 [some (.ref h), some (.int u), some (.int v), some (.int s), some (.int x4), some (.int x5), some (.int (nI i))] [] := by
    intro fu
    induction fu with
    | zero => intros; omega
    | succ fu ih15 =>
      intro i f17 f18 x4 x5 σ hi hf hx4 hx5 hM
      refine g_iload ld_6 17 rfl dX1_look_15 ?_
      refine g_bipush (v := 12) (by decide) 19 rfl dX1_look_17 ?_
      refine g_icmp_geN (a := i) (c := 12) rfl (show (12 : Int32) = nI 12 from rfl) (by omega) (by omega) 100 22 rfl (by decide) dX1_look_19 (fun c19 => ?_) (fun c19 => ?_)
      · refine g_iload ld_4 102 rfl dX1_look_100 ?_
        obtain rfl : i = 12 := by omega
        exact g_iret hR rfl (Nat.le_of_ble_eq_true rfl) (Nat.le_of_ble_eq_true rfl) ⟨_, rfl, f17, f18, hx4, hM⟩ dX1_look_102
      · refine g_aload_n rfl ld_0 23 rfl dX1_look_22 ?_
        refine g_iload ld_6 25 rfl dX1_look_23 ?_
        refine g_callV (As := [.int (nI i)]) (rest := []) (ci := 1) (v_X1_isBox z.l D b hM (w0 := A 0) rfl (nI i)) k_X1_isBox q1759 hM.1 rfl rfl rfl rfl (Nat.le_of_ble_eq_true rfl) ⟨Nat.le_of_ble_eq_true rfl, Nat.le_of_ble_eq_true rfl⟩ 0 0 (Nat.le_of_ble_eq_true rfl) (Nat.le_of_ble_eq_true rfl) (Nat.le_of_ble_eq_true rfl) (Nat.le_of_ble_eq_true rfl) 28 rfl dX1_look_25 (fun v σ1 hq => ?_)
        obtain ⟨rfl, rfl⟩ := hq
        refine g_if_eqB 94 31 rfl (by decide) dX1_look_28 (fun c28 => ?_) (fun c28 => ?_)
        · have e4 : lkN (A 0) u v s (i + 1) = lkN (A 0) u v s i := by rw [lkN, if_neg (by simp [*])]
          refine g_iinc (v := nI (i + 1)) ld_6 (nI_1 _) sa_6 97 rfl dX1_look_94 ?_
          refine g_goto 15 (by decide) dX1_look_97 ?_
          have hM : MW D h ad σ0 (upd (upd (upd (upd F 20 ((lkN (A 0) u v s ((i + 1))).2.2)) 17 f17) 18 f18) 19 (fc19 (A 0) u v s (lkN (A 0) u v s ((i + 1))).1 (F 19))) A σ := by
            have e1 : upd (upd (upd (upd F 20 ((lkN (A 0) u v s ((i + 1))).2.2)) 17 f17) 18 f18) 19 (fc19 (A 0) u v s (lkN (A 0) u v s ((i + 1))).1 (F 19)) = upd (upd (upd (upd F 20 ((lkN (A 0) u v s i).2.2)) 17 f17) 18 f18) 19 (fc19 (A 0) u v s (lkN (A 0) u v s i).1 (F 19)) := by rw [e4]
            rw [e1]; exact hM
          exact ih15 (i + 1) f17 f18 x4 x5 σ (by omega) (by omega) (by rw [e4]; exact hx4) (by rw [e4]; exact hx5) hM
        · refine g_aload_n rfl ld_0 32 rfl dX1_look_31 ?_
          refine g_aload_n rfl ld_0 33 rfl dX1_look_32 ?_
          refine g_getf (kf := 0) (v := .ref (ad 0)) hM.1 rfl rfl in_X1 (by decide) q1661 rfl 36 rfl dX1_look_33 ?_
          refine g_bipush (v := 7) (by decide) 38 rfl dX1_look_36 ?_
          refine g_iload ld_6 40 rfl dX1_look_38 ?_
          refine g_imulN (a := 7) (c := i) (show (7 : Int32) = nI 7 from rfl) rfl 41 rfl dX1_look_40 ?_
          refine g_iload_n rfl ld_1 42 rfl dX1_look_41 ?_
          refine g_iload_n rfl ld_2 43 rfl dX1_look_42 ?_
          refine g_iload_n rfl ld_3 44 rfl dX1_look_43 ?_
          refine g_callV (As := [.ref (ad 0), .int (nI (7 * i)), .int u, .int v, .int s]) (rest := []) (ci := 1) (c_X1_isMet z.l D b hM 0 84 (7 * i) (A 0) (by omega) rfl (by omega) u v s) k_X1_isMet q1931 hM.1 rfl rfl rfl rfl (Nat.le_of_ble_eq_true rfl) ⟨Nat.le_of_ble_eq_true rfl, Nat.le_of_ble_eq_true rfl⟩ 0 0 (Nat.le_of_ble_eq_true rfl) (Nat.le_of_ble_eq_true rfl) (Nat.le_of_ble_eq_true rfl) (Nat.le_of_ble_eq_true rfl) 47 rfl dX1_look_44 (fun v σ1 hq => ?_)
          obtain ⟨_, rfl, rfl, hM⟩ := hq
          revert σ1
          intro σ hM
          have hM : MW D h ad σ0 (upd (upd (upd (upd F 20 ((lkN (A 0) u v s i).2.2)) 19 (fc19 (A 0) u v s (lkN (A 0) u v s i).1 (F 19))) 18 (nI (sfR (A 0) (7 * i) u v s))) 17 (farR (A 0) (7 * i) u v s)) A σ := by
            have e9 : upd (upd (upd (upd F 20 ((lkN (A 0) u v s i).2.2)) 19 (fc19 (A 0) u v s (lkN (A 0) u v s i).1 (F 19))) 18 (nI (sfR (A 0) (7 * i) u v s))) 17 (farR (A 0) (7 * i) u v s) = upd (upd (upd (upd (upd (upd F 20 ((lkN (A 0) u v s i).2.2)) 17 f17) 18 f18) 19 (fc19 (A 0) u v s (lkN (A 0) u v s i).1 (F 19))) 18 (nI (sfR (A 0) (7 * i) u v s))) 17 (farR (A 0) (7 * i) u v s) := by funext x9; by_cases h9_17 : x9 = 17; (subst h9_17; simp [upd_ap]); by_cases h9_18 : x9 = 18; (subst h9_18; simp [upd_ap]); by_cases h9_19 : x9 = 19; (subst h9_19; simp [upd_ap]); by_cases h9_20 : x9 = 20; (subst h9_20; simp [upd_ap]); simp [upd_ap, h9_17, h9_18, h9_19, h9_20]
            rw [e9]; exact hM
          refine g_if_eqB 94 50 rfl (by decide) dX1_look_47 (fun c47 => ?_) (fun c47 => ?_)
          · have e4 : lkN (A 0) u v s (i + 1) = lkN (A 0) u v s i := by rw [lkN, if_neg (by simp [*])]
            refine g_iinc (v := nI (i + 1)) ld_6 (nI_1 _) sa_6 97 rfl dX1_look_94 ?_
            refine g_goto 15 (by decide) dX1_look_97 ?_
            have hM : MW D h ad σ0 (upd (upd (upd (upd F 20 ((lkN (A 0) u v s ((i + 1))).2.2)) 17 ((farR (A 0) (7 * i) u v s))) 18 ((nI (sfR (A 0) (7 * i) u v s)))) 19 (fc19 (A 0) u v s (lkN (A 0) u v s ((i + 1))).1 (F 19))) A σ := by
              have e1 : upd (upd (upd (upd F 20 ((lkN (A 0) u v s ((i + 1))).2.2)) 17 ((farR (A 0) (7 * i) u v s))) 18 ((nI (sfR (A 0) (7 * i) u v s)))) 19 (fc19 (A 0) u v s (lkN (A 0) u v s ((i + 1))).1 (F 19)) = upd (upd (upd (upd F 20 ((lkN (A 0) u v s i).2.2)) 19 (fc19 (A 0) u v s (lkN (A 0) u v s i).1 (F 19))) 18 (nI (sfR (A 0) (7 * i) u v s))) 17 (farR (A 0) (7 * i) u v s) := by rw [e4]; funext x9; by_cases h9_17 : x9 = 17; (subst h9_17; simp [upd_ap, fc19]); by_cases h9_18 : x9 = 18; (subst h9_18; simp [upd_ap, fc19]); by_cases h9_19 : x9 = 19; (subst h9_19; simp [upd_ap, fc19]); by_cases h9_20 : x9 = 20; (subst h9_20; simp [upd_ap, fc19]); simp [upd_ap, h9_17, h9_18, h9_19, h9_20]
              rw [e1]; exact hM
            exact ih15 (i + 1) (farR (A 0) (7 * i) u v s) (nI (sfR (A 0) (7 * i) u v s)) x4 x5 σ (by omega) (by omega) (by rw [e4]; exact hx4) (by rw [e4]; exact hx5) hM
          · refine g_aload_n rfl ld_0 51 rfl dX1_look_50 ?_
            refine g_dup rfl 52 rfl dX1_look_51 ?_
            have g9 : (upd (upd (upd (upd F 20 ((lkN (A 0) u v s i).2.2)) 19 (fc19 (A 0) u v s (lkN (A 0) u v s i).1 (F 19))) 18 (nI (sfR (A 0) (7 * i) u v s))) 17 (farR (A 0) (7 * i) u v s)) 20 = (lkN (A 0) u v s i).2.2 := (Eq.trans (upd_n (by decide)) (Eq.trans (upd_n (by decide)) (Eq.trans (upd_n (by decide)) (upd_s _ _ _))))
            refine g_getf (kf := 20) (v := .int ((lkN (A 0) u v s i).2.2)) hM.1 (mfs_get (by decide) g9) rfl in_X1 (by decide) q1681 rfl 55 rfl dX1_look_52 ?_
            refine g_iconst (v := 1) (by decide) 56 rfl dX1_look_55 ?_
            refine g_iadd 57 rfl dX1_look_56 ?_
            have hM : MW D h ad σ0 (upd (upd (upd (upd F 19 (fc19 (A 0) u v s (lkN (A 0) u v s i).1 (F 19))) 18 (nI (sfR (A 0) (7 * i) u v s))) 17 (farR (A 0) (7 * i) u v s)) 20 ((lkN (A 0) u v s i).2.2)) A σ := by
              have e9 : upd (upd (upd (upd F 19 (fc19 (A 0) u v s (lkN (A 0) u v s i).1 (F 19))) 18 (nI (sfR (A 0) (7 * i) u v s))) 17 (farR (A 0) (7 * i) u v s)) 20 ((lkN (A 0) u v s i).2.2) = upd (upd (upd (upd F 20 ((lkN (A 0) u v s i).2.2)) 19 (fc19 (A 0) u v s (lkN (A 0) u v s i).1 (F 19))) 18 (nI (sfR (A 0) (7 * i) u v s))) 17 (farR (A 0) (7 * i) u v s) := by funext x9; by_cases h9 : x9 = 20 <;> simp [upd_ap, h9]
              rw [e9]; exact hM
            refine gm_putU (v := ((lkN (A 0) u v s i).2.2) + ((1 : Int32))) 20 (by decide) hM q1681 60 rfl dX1_look_57 (fun σ hM => ?_)
            have hlk := lk_le12 (A 0) u v s (k := i) (by omega)
            refine g_iload ld_4 62 rfl dX1_look_60 ?_
            refine g_bipush (v := -106) (by decide) 64 rfl dX1_look_62 ?_
            refine g_icmp_eq 76 67 rfl (by decide) dX1_look_64 (fun c64 => ?_) (fun c64 => ?_)
            · refine g_iload ld_6 78 rfl dX1_look_76 ?_
              refine g_istore sa_4 80 rfl dX1_look_78 ?_
              refine g_aload_n rfl ld_0 81 rfl dX1_look_80 ?_
              have g9 : (upd (upd (upd (upd F 19 (fc19 (A 0) u v s (lkN (A 0) u v s i).1 (F 19))) 18 (nI (sfR (A 0) (7 * i) u v s))) 17 (farR (A 0) (7 * i) u v s)) 20 (((lkN (A 0) u v s i).2.2) + ((1 : Int32)))) 17 = farR (A 0) (7 * i) u v s := (Eq.trans (upd_n (by decide)) (upd_s _ _ _))
              refine g_getf (kf := 17) (v := .int (farR (A 0) (7 * i) u v s)) hM.1 (mfs_get (by decide) g9) rfl in_X1 (by decide) q1678 rfl 84 rfl dX1_look_81 ?_
              refine g_istore sa_5 86 rfl dX1_look_84 ?_
              refine g_aload_n rfl ld_0 87 rfl dX1_look_86 ?_
              refine g_aload_n rfl ld_0 88 rfl dX1_look_87 ?_
              have g9 : (upd (upd (upd (upd F 19 (fc19 (A 0) u v s (lkN (A 0) u v s i).1 (F 19))) 18 (nI (sfR (A 0) (7 * i) u v s))) 17 (farR (A 0) (7 * i) u v s)) 20 (((lkN (A 0) u v s i).2.2) + ((1 : Int32)))) 18 = nI (sfR (A 0) (7 * i) u v s) := (Eq.trans (upd_n (by decide)) (Eq.trans (upd_n (by decide)) (upd_s _ _ _)))
              refine g_getf (kf := 18) (v := .int (nI (sfR (A 0) (7 * i) u v s))) hM.1 (mfs_get (by decide) g9) rfl in_X1 (by decide) q1679 rfl 91 rfl dX1_look_88 ?_
              have hM : MW D h ad σ0 (upd (upd (upd (upd F 18 (nI (sfR (A 0) (7 * i) u v s))) 17 (farR (A 0) (7 * i) u v s)) 20 (((lkN (A 0) u v s i).2.2) + ((1 : Int32)))) 19 (fc19 (A 0) u v s (lkN (A 0) u v s i).1 (F 19))) A σ := by
                have e9 : upd (upd (upd (upd F 18 (nI (sfR (A 0) (7 * i) u v s))) 17 (farR (A 0) (7 * i) u v s)) 20 (((lkN (A 0) u v s i).2.2) + ((1 : Int32)))) 19 (fc19 (A 0) u v s (lkN (A 0) u v s i).1 (F 19)) = upd (upd (upd (upd F 19 (fc19 (A 0) u v s (lkN (A 0) u v s i).1 (F 19))) 18 (nI (sfR (A 0) (7 * i) u v s))) 17 (farR (A 0) (7 * i) u v s)) 20 (((lkN (A 0) u v s i).2.2) + ((1 : Int32))) := by funext x9; by_cases h9 : x9 = 19 <;> simp [upd_ap, h9]
                rw [e9]; exact hM
              refine gm_putU (v := nI (sfR (A 0) (7 * i) u v s)) 19 (by decide) hM q1680 94 rfl dX1_look_91 (fun σ hM => ?_)
              have e4 : lkN (A 0) u v s (i + 1) = (i, farR (A 0) (7 * i) u v s, (lkN (A 0) u v s i).2.2 + 1) := by rw [lkN, if_pos (by simp [c28, c47]), if_pos (Or.inl ((oM_eq hlk).1 (hx4.symm.trans c64)))]
              refine g_iinc (v := nI (i + 1)) ld_6 (nI_1 _) sa_6 97 rfl dX1_look_94 ?_
              refine g_goto 15 (by decide) dX1_look_97 ?_
              have hM : MW D h ad σ0 (upd (upd (upd (upd F 20 ((lkN (A 0) u v s ((i + 1))).2.2)) 17 ((farR (A 0) (7 * i) u v s))) 18 ((nI (sfR (A 0) (7 * i) u v s)))) 19 (fc19 (A 0) u v s (lkN (A 0) u v s ((i + 1))).1 (F 19))) A σ := by
                have e1 : upd (upd (upd (upd F 20 ((lkN (A 0) u v s ((i + 1))).2.2)) 17 ((farR (A 0) (7 * i) u v s))) 18 ((nI (sfR (A 0) (7 * i) u v s)))) 19 (fc19 (A 0) u v s (lkN (A 0) u v s ((i + 1))).1 (F 19)) = upd (upd (upd (upd F 18 (nI (sfR (A 0) (7 * i) u v s))) 17 (farR (A 0) (7 * i) u v s)) 20 (((lkN (A 0) u v s i).2.2) + ((1 : Int32)))) 19 (nI (sfR (A 0) (7 * i) u v s)) := by rw [e4]; funext x9; by_cases h9_17 : x9 = 17; (subst h9_17; simp [upd_ap, fc19, show ¬ i = 12 by omega]); by_cases h9_18 : x9 = 18; (subst h9_18; simp [upd_ap, fc19, show ¬ i = 12 by omega]); by_cases h9_19 : x9 = 19; (subst h9_19; simp [upd_ap, fc19, show ¬ i = 12 by omega]); by_cases h9_20 : x9 = 20; (subst h9_20; simp [upd_ap, fc19, show ¬ i = 12 by omega]); simp [upd_ap, h9_17, h9_18, h9_19, h9_20]
                rw [e1]; exact hM
              exact ih15 (i + 1) (farR (A 0) (7 * i) u v s) (nI (sfR (A 0) (7 * i) u v s)) (nI i) (farR (A 0) (7 * i) u v s) σ (by omega) (by omega) (by rw [e4]; exact (oM_lt (by omega)).symm) (by rw [e4]) hM
            · have hn12 : ¬ (lkN (A 0) u v s i).1 = 12 := fun e => c64 ((hx4.trans ((oM_eq hlk).2 e)))
              refine g_aload_n rfl ld_0 68 rfl dX1_look_67 ?_
              have g9 : (upd (upd (upd (upd F 19 (fc19 (A 0) u v s (lkN (A 0) u v s i).1 (F 19))) 18 (nI (sfR (A 0) (7 * i) u v s))) 17 (farR (A 0) (7 * i) u v s)) 20 (((lkN (A 0) u v s i).2.2) + ((1 : Int32)))) 17 = farR (A 0) (7 * i) u v s := (Eq.trans (upd_n (by decide)) (upd_s _ _ _))
              refine g_getf (kf := 17) (v := .int (farR (A 0) (7 * i) u v s)) hM.1 (mfs_get (by decide) g9) rfl in_X1 (by decide) q1678 rfl 71 rfl dX1_look_68 ?_
              refine g_iload ld_5 73 rfl dX1_look_71 ?_
              refine g_icmp_le 94 76 rfl (by decide) dX1_look_73 (fun c73 => ?_) (fun c73 => ?_)
              · have e4 : lkN (A 0) u v s (i + 1) = ((lkN (A 0) u v s i).1, (lkN (A 0) u v s i).2.1, (lkN (A 0) u v s i).2.2 + 1) := by rw [lkN, if_pos (by simp [c28, c47]), if_neg (by rw [not_or]; exact ⟨hn12, by rw [← hx5]; exact c73⟩)]
                refine g_iinc (v := nI (i + 1)) ld_6 (nI_1 _) sa_6 97 rfl dX1_look_94 ?_
                refine g_goto 15 (by decide) dX1_look_97 ?_
                have hM : MW D h ad σ0 (upd (upd (upd (upd F 20 ((lkN (A 0) u v s ((i + 1))).2.2)) 17 ((farR (A 0) (7 * i) u v s))) 18 ((nI (sfR (A 0) (7 * i) u v s)))) 19 (fc19 (A 0) u v s (lkN (A 0) u v s ((i + 1))).1 (F 19))) A σ := by
                  have e1 : upd (upd (upd (upd F 20 ((lkN (A 0) u v s ((i + 1))).2.2)) 17 ((farR (A 0) (7 * i) u v s))) 18 ((nI (sfR (A 0) (7 * i) u v s)))) 19 (fc19 (A 0) u v s (lkN (A 0) u v s ((i + 1))).1 (F 19)) = upd (upd (upd (upd F 19 (fc19 (A 0) u v s (lkN (A 0) u v s i).1 (F 19))) 18 (nI (sfR (A 0) (7 * i) u v s))) 17 (farR (A 0) (7 * i) u v s)) 20 (((lkN (A 0) u v s i).2.2) + ((1 : Int32))) := by rw [e4]; funext x9; by_cases h9_17 : x9 = 17; (subst h9_17; simp [upd_ap, fc19]); by_cases h9_18 : x9 = 18; (subst h9_18; simp [upd_ap, fc19]); by_cases h9_19 : x9 = 19; (subst h9_19; simp [upd_ap, fc19]); by_cases h9_20 : x9 = 20; (subst h9_20; simp [upd_ap, fc19]); simp [upd_ap, h9_17, h9_18, h9_19, h9_20]
                  rw [e1]; exact hM
                exact ih15 (i + 1) (farR (A 0) (7 * i) u v s) (nI (sfR (A 0) (7 * i) u v s)) x4 x5 σ (by omega) (by omega) (by rw [e4]; exact hx4) (by rw [e4]; exact hx5) hM
              · refine g_iload ld_6 78 rfl dX1_look_76 ?_
                refine g_istore sa_4 80 rfl dX1_look_78 ?_
                refine g_aload_n rfl ld_0 81 rfl dX1_look_80 ?_
                have g9 : (upd (upd (upd (upd F 19 (fc19 (A 0) u v s (lkN (A 0) u v s i).1 (F 19))) 18 (nI (sfR (A 0) (7 * i) u v s))) 17 (farR (A 0) (7 * i) u v s)) 20 (((lkN (A 0) u v s i).2.2) + ((1 : Int32)))) 17 = farR (A 0) (7 * i) u v s := (Eq.trans (upd_n (by decide)) (upd_s _ _ _))
                refine g_getf (kf := 17) (v := .int (farR (A 0) (7 * i) u v s)) hM.1 (mfs_get (by decide) g9) rfl in_X1 (by decide) q1678 rfl 84 rfl dX1_look_81 ?_
                refine g_istore sa_5 86 rfl dX1_look_84 ?_
                refine g_aload_n rfl ld_0 87 rfl dX1_look_86 ?_
                refine g_aload_n rfl ld_0 88 rfl dX1_look_87 ?_
                have g9 : (upd (upd (upd (upd F 19 (fc19 (A 0) u v s (lkN (A 0) u v s i).1 (F 19))) 18 (nI (sfR (A 0) (7 * i) u v s))) 17 (farR (A 0) (7 * i) u v s)) 20 (((lkN (A 0) u v s i).2.2) + ((1 : Int32)))) 18 = nI (sfR (A 0) (7 * i) u v s) := (Eq.trans (upd_n (by decide)) (Eq.trans (upd_n (by decide)) (upd_s _ _ _)))
                refine g_getf (kf := 18) (v := .int (nI (sfR (A 0) (7 * i) u v s))) hM.1 (mfs_get (by decide) g9) rfl in_X1 (by decide) q1679 rfl 91 rfl dX1_look_88 ?_
                have hM : MW D h ad σ0 (upd (upd (upd (upd F 18 (nI (sfR (A 0) (7 * i) u v s))) 17 (farR (A 0) (7 * i) u v s)) 20 (((lkN (A 0) u v s i).2.2) + ((1 : Int32)))) 19 (fc19 (A 0) u v s (lkN (A 0) u v s i).1 (F 19))) A σ := by
                  have e9 : upd (upd (upd (upd F 18 (nI (sfR (A 0) (7 * i) u v s))) 17 (farR (A 0) (7 * i) u v s)) 20 (((lkN (A 0) u v s i).2.2) + ((1 : Int32)))) 19 (fc19 (A 0) u v s (lkN (A 0) u v s i).1 (F 19)) = upd (upd (upd (upd F 19 (fc19 (A 0) u v s (lkN (A 0) u v s i).1 (F 19))) 18 (nI (sfR (A 0) (7 * i) u v s))) 17 (farR (A 0) (7 * i) u v s)) 20 (((lkN (A 0) u v s i).2.2) + ((1 : Int32))) := by funext x9; by_cases h9 : x9 = 19 <;> simp [upd_ap, h9]
                  rw [e9]; exact hM
                refine gm_putU (v := nI (sfR (A 0) (7 * i) u v s)) 19 (by decide) hM q1680 94 rfl dX1_look_91 (fun σ hM => ?_)
                have e4 : lkN (A 0) u v s (i + 1) = (i, farR (A 0) (7 * i) u v s, (lkN (A 0) u v s i).2.2 + 1) := by rw [lkN, if_pos (by simp [c28, c47]), if_pos (Or.inr (by rw [← hx5]; exact c73))]
                refine g_iinc (v := nI (i + 1)) ld_6 (nI_1 _) sa_6 97 rfl dX1_look_94 ?_
                refine g_goto 15 (by decide) dX1_look_97 ?_
                have hM : MW D h ad σ0 (upd (upd (upd (upd F 20 ((lkN (A 0) u v s ((i + 1))).2.2)) 17 ((farR (A 0) (7 * i) u v s))) 18 ((nI (sfR (A 0) (7 * i) u v s)))) 19 (fc19 (A 0) u v s (lkN (A 0) u v s ((i + 1))).1 (F 19))) A σ := by
                  have e1 : upd (upd (upd (upd F 20 ((lkN (A 0) u v s ((i + 1))).2.2)) 17 ((farR (A 0) (7 * i) u v s))) 18 ((nI (sfR (A 0) (7 * i) u v s)))) 19 (fc19 (A 0) u v s (lkN (A 0) u v s ((i + 1))).1 (F 19)) = upd (upd (upd (upd F 18 (nI (sfR (A 0) (7 * i) u v s))) 17 (farR (A 0) (7 * i) u v s)) 20 (((lkN (A 0) u v s i).2.2) + ((1 : Int32)))) 19 (nI (sfR (A 0) (7 * i) u v s)) := by rw [e4]; funext x9; by_cases h9_17 : x9 = 17; (subst h9_17; simp [upd_ap, fc19, show ¬ i = 12 by omega]); by_cases h9_18 : x9 = 18; (subst h9_18; simp [upd_ap, fc19, show ¬ i = 12 by omega]); by_cases h9_19 : x9 = 19; (subst h9_19; simp [upd_ap, fc19, show ¬ i = 12 by omega]); by_cases h9_20 : x9 = 20; (subst h9_20; simp [upd_ap, fc19, show ¬ i = 12 by omega]); simp [upd_ap, h9_17, h9_18, h9_19, h9_20]
                  rw [e1]; exact hM
                exact ih15 (i + 1) (farR (A 0) (7 * i) u v s) (nI (sfR (A 0) (7 * i) u v s)) (nI i) (farR (A 0) (7 * i) u v s) σ (by omega) (by omega) (by rw [e4]; exact (oM_lt (by omega)).symm) (by rw [e4]) hM
  have hM : MW D h ad σ0 (upd (upd (upd (upd F 20 ((lkN (A 0) u v s 0).2.2)) 17 ((F 17))) 18 ((F 18))) 19 (fc19 (A 0) u v s (lkN (A 0) u v s 0).1 (F 19))) A σ := by
    have e1 : upd (upd (upd (upd F 20 ((lkN (A 0) u v s 0).2.2)) 17 ((F 17))) 18 ((F 18))) 19 (fc19 (A 0) u v s (lkN (A 0) u v s 0).1 (F 19)) = upd F 20 ((0 : Int32)) := by funext x9; by_cases h9_17 : x9 = 17; (subst h9_17; simp [upd_ap, fc19, lkN]); by_cases h9_18 : x9 = 18; (subst h9_18; simp [upd_ap, fc19, lkN]); by_cases h9_19 : x9 = 19; (subst h9_19; simp [upd_ap, fc19, lkN]); by_cases h9_20 : x9 = 20; (subst h9_20; simp [upd_ap, fc19, lkN]); simp [upd_ap, h9_17, h9_18, h9_19, h9_20]
    rw [e1]; exact hM
  exact lp15 (12 + 1) 0 (F 17) (F 18) ((-106 : Int32)) ((0 : Int32)) σ (by omega) (by omega) (by rw [lkN]; exact oM_12.symm) (by rw [lkN]) hM
theorem v_X1_look (l : Launch) (D : DD) (b : Nat) {h : Nat} {ad : Nat → Nat} {σ0 : Hp} {F : Nat → Int32} {A : Nat → Nat → Int32} {σ : Hp} (hM : MW D h ad σ0 F A σ) {w0 : Nat → Int32} (hw0 : A 0 = w0) (u v s : Int32) : CM l yX1_look cX1_look 7 (some .int) rX1_look D b [.ref h, .int u, .int v, .int s] σ (PI (fun r σ' => ∃ f17 f18, r = oM (lkN (w0) u v s 12).1 ∧ MW D h ad σ0 (upd (upd (upd (upd F 20 (lkN (w0) u v s 12).2.2) 17 f17) 18 f18) 19 (fc19 (w0) u v s (lkN (w0) u v s 12).1 (F 19))) A σ')) := by
  subst hw0
  exact c_X1_look l D b hM u v s
