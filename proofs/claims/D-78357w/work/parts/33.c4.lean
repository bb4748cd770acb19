/-! THE COMPONENT, part 4: isThere, metBy -/
set_option maxRecDepth 100000
def rX0_isIn : Room := { frames := 1, cells := 0, slots := 0, locals := 12 }
theorem k_X0_isIn : CS yX0_isIn cX0_isIn 3 (some .boolean) 3 := ⟨q324, q75, q325, by decide +kernel, by decide +kernel, by decide +kernel⟩
set_option maxHeartbeats 400000 in
theorem c_X0_isIn (l : Launch) (D : DD) (b : Nat) {σ : Hp} (v l0 h0 : Int32) : CM l yX0_isIn cX0_isIn 3 (some .boolean) rX0_isIn D b [.int v, .int l0, .int h0] σ (PIx (bI (inR v l0 h0)) σ) := by
  refine CM_of [some (.int v), some (.int l0), some (.int h0)] RX0 (by decide) rfl (cat_all rfl) (Nat.le_of_ble_eq_true rfl) rfl ?_
  intro z hz hR hnm
  refine g_iload_n rfl ld_0 1 rfl dX0_isIn_0 ?_
  refine g_iload_n rfl ld_1 2 rfl dX0_isIn_1 ?_
  refine g_icmp_lt 14 5 rfl (by decide) dX0_isIn_2 (fun c2 => ?_) (fun c2 => ?_)
  · refine g_iconst (v := 0) (by decide) 15 rfl dX0_isIn_14 ?_
    exact g_iret hR nz_0 (Nat.le_of_ble_eq_true rfl) (Nat.le_of_ble_eq_true rfl) ⟨congrArg (fun p => some (Value.int (bI p))) (show false = inR v l0 h0 from by simp [inR, *]), rfl⟩ dX0_isIn_15
  · refine g_iload_n rfl ld_0 6 rfl dX0_isIn_5 ?_
    refine g_iload_n rfl ld_2 7 rfl dX0_isIn_6 ?_
    refine g_icmp_gt 14 10 rfl (by decide) dX0_isIn_7 (fun c7 => ?_) (fun c7 => ?_)
    · refine g_iconst (v := 0) (by decide) 15 rfl dX0_isIn_14 ?_
      exact g_iret hR nz_0 (Nat.le_of_ble_eq_true rfl) (Nat.le_of_ble_eq_true rfl) ⟨congrArg (fun p => some (Value.int (bI p))) (show false = inR v l0 h0 from by simp [inR, *]), rfl⟩ dX0_isIn_15
    · refine g_iconst (v := 1) (by decide) 11 rfl dX0_isIn_10 ?_
      refine g_goto 15 (by decide) dX0_isIn_11 ?_
      exact g_iret hR nz_1 (Nat.le_of_ble_eq_true rfl) (Nat.le_of_ble_eq_true rfl) ⟨congrArg (fun p => some (Value.int (bI p))) (show true = inR v l0 h0 from by simp [inR, *]), rfl⟩ dX0_isIn_15
def prI (w : Nat → Int32) (v : Int32) : Bool := inR v 0 11 && pr w v.toNatClampNeg
def rX0_isThere : Room := { frames := 2, cells := 0, slots := 0, locals := 34 }
theorem k_X0_isThere : CV yX0_isThere cX0_isThere 2 (some .boolean) 1 := ⟨q321, qs5, q75, q322, by decide +kernel, by decide +kernel, by decide +kernel⟩
set_option maxHeartbeats 400000 in
theorem c_X0_isThere (l : Launch) (D : DD) (b : Nat) {σ : Hp} {c : Nat} {a : Nat → Nat} {iv : Nat → Int32} (hc : σ c = some (.inr (0, cfs a iv))) {w : Nat → Int32} {r : Nat → Option Nat} (hS : SpA D σ (a 0) w r) (v : Int32) : CM l yX0_isThere cX0_isThere 2 (some .boolean) rX0_isThere D b [.ref c, .int v] σ (PIx (bI (prI w v)) σ) := by
  refine CM_of [some (.ref c), some (.int v)] RX0 (by decide) rfl (cat_all rfl) (Nat.le_of_ble_eq_true rfl) rfl ?_
  intro z hz hR hnm
  refine g_iload_n rfl ld_1 1 rfl dX0_isThere_0 ?_
  refine g_iconst (v := 0) (by decide) 2 rfl dX0_isThere_1 ?_
  refine g_bipush (v := 11) (by decide) 4 rfl dX0_isThere_2 ?_
  refine g_callS (As := [.int v, .int ((0 : Int32)), .int ((11 : Int32))]) (rest := []) (c_X0_isIn z.l D b (σ := σ) v ((0 : Int32)) ((11 : Int32))) k_X0_isIn q323 rfl rfl (Nat.le_of_ble_eq_true rfl) ⟨Nat.le_of_ble_eq_true rfl, Nat.le_of_ble_eq_true rfl⟩ 0 0 (Nat.le_of_ble_eq_true rfl) (Nat.le_of_ble_eq_true rfl) (Nat.le_of_ble_eq_true rfl) (Nat.le_of_ble_eq_true rfl) 7 rfl dX0_isThere_4 (fun v σ1 hq => ?_)
  obtain ⟨rfl, rfl⟩ := hq
  refine g_if_eqB 23 10 rfl (by decide) dX0_isThere_7 (fun c7 => ?_) (fun c7 => ?_)
  · refine g_iconst (v := 0) (by decide) 24 rfl dX0_isThere_23 ?_
    exact g_iret hR nz_0 (Nat.le_of_ble_eq_true rfl) (Nat.le_of_ble_eq_true rfl) ⟨congrArg (fun p => some (Value.int (bI p))) (show false = prI w v from by simp [prI, c7]), rfl⟩ dX0_isThere_24
  · obtain ⟨j, hj, rfl⟩ := inR_nat (N := 11) c7 (by decide)
    have hclj := nI_clamp (show j < 2 ^ 31 by omega)
    refine g_aload_n rfl ld_0 11 rfl dX0_isThere_10 ?_
    refine g_getf (kf := 0) hc rfl rfl in_X0 (by decide) q184 rfl 14 rfl dX0_isThere_11 ?_
    refine g_iload_n rfl ld_1 15 rfl dX0_isThere_14 ?_
    refine g_aaldX (j := j) (f := r) hS.1 rfl (by omega) (by decide) 16 rfl dX0_isThere_15 ?_
    rcases hS.2 j (by omega) with ⟨hw1, x2, lo3, hi4, f5, g6, hr7, hB8, hf9, hg10⟩ | ⟨hw1, hr7⟩
    · rw [hr7]
      show G z cX0_isThere RX0 2 rX0_isThere D b σ 0 0 16 [some (.ref c), some (.int (nI j))] [.ref x2]
      refine g_ifnull 19 rfl dX0_isThere_16 ?_
      refine g_iconst (v := 1) (by decide) 20 rfl dX0_isThere_19 ?_
      refine g_goto 24 (by decide) dX0_isThere_20 ?_
      exact g_iret hR nz_1 (Nat.le_of_ble_eq_true rfl) (Nat.le_of_ble_eq_true rfl) ⟨congrArg (fun p => some (Value.int (bI p))) (show true = prI w (nI j) from by simp [prI, pr, c7, hclj, hw1]), rfl⟩ dX0_isThere_24
    · rw [hr7]
      show G z cX0_isThere RX0 2 rX0_isThere D b σ 0 0 16 [some (.ref c), some (.int (nI j))] [.null]
      refine g_ifnullN 23 (by decide) dX0_isThere_16 ?_
      refine g_iconst (v := 0) (by decide) 24 rfl dX0_isThere_23 ?_
      exact g_iret hR nz_0 (Nat.le_of_ble_eq_true rfl) (Nat.le_of_ble_eq_true rfl) ⟨congrArg (fun p => some (Value.int (bI p))) (show false = prI w (nI j) from by simp [prI, pr, c7, hclj, hw1]), rfl⟩ dX0_isThere_24
def rowf (w : Nat → Int32) (k : Nat) : Nat → Int32 := fun x => w (7 * k + x)
def rowg (w : Nat → Int32) (k : Nat) : Nat → Int32 := fun x => w (7 * k + (x + 3))
def metB (w : Nat → Int32) (m : Int32) (f' g' : Nat → Int32) : Int32 := ff (fun k => (pr w k && !decide (nI k = m)) && mtB (rowf w k) (rowg w k) f' g') (-106) 12 0
def rX0_metBy : Room := { frames := 3, cells := 0, slots := 0, locals := 55 }
theorem k_X0_metBy : CV yX0_metBy cX0_metBy 6 (some .int) 1 := ⟨q277, qs1, q75, q278, by decide +kernel, by decide +kernel, by decide +kernel⟩
set_option maxHeartbeats 1000000 in
theorem c_X0_metBy (l : Launch) (D : DD) (b : Nat) {σ : Hp} {c : Nat} {a : Nat → Nat} {iv : Nat → Int32} (hc : σ c = some (.inr (0, cfs a iv))) {w : Nat → Int32} {r : Nat → Option Nat} (hS : SpA D σ (a 0) w r) {q' lo' hi' : Nat} {n' : Int32} {f' g' : Nat → Int32} (hB' : BxA D σ q' lo' hi' n' f' g') : CM l yX0_metBy cX0_metBy 6 (some .int) rX0_metBy D b [.ref c, .ref q'] σ (PIx (metB w n' f' g') σ) := by
  refine CM_of [some (.ref c), some (.ref q'), none, none, none, none] RX0 (by decide) rfl (cat_all rfl) (Nat.le_of_ble_eq_true rfl) rfl ?_
  intro z hz hR hnm
  refine g_aload_n rfl ld_0 1 rfl dX0_metBy_0 ?_
  refine g_getf (kf := 0) hc rfl rfl in_X0 (by decide) q184 rfl 4 rfl dX0_metBy_1 ?_
  refine g_astore_n rfl sa_2 5 rfl dX0_metBy_4 ?_
  refine g_aload_n rfl ld_2 6 rfl dX0_metBy_5 ?_
  refine g_alenX hS.1 7 rfl dX0_metBy_6 ?_
  refine g_istore_n rfl sa_3 8 rfl dX0_metBy_7 ?_
  refine g_iconst (v := 0) (by decide) 9 rfl dX0_metBy_8 ?_
  refine g_istore sa_4 11 rfl dX0_metBy_9 ?_
  have lp11 : ∀ (fu i : Nat), i ≤ 12 → 12 + 1 ≤ i + fu → (metB w n' f' g' = ff (fun k => (pr w k && !decide (nI k = n')) && mtB (rowf w k) (rowg w k) f' g') (-106) 12 i) → G z cX0_metBy RX0 6 rX0_metBy D b σ 0 0 11 [some (.ref c), some (.ref q'), some (.ref (a 0)), some (.int (nI 12)), some (.int (nI i)), none] [] := by
    intro fu
    induction fu with
    | zero => intros; omega
    | succ fu ih11 =>
      intro i  hi hf hx
      refine g_iload ld_4 13 rfl dX0_metBy_11 ?_
      refine g_iload_n rfl ld_3 14 rfl dX0_metBy_13 ?_
      refine g_icmp_geN (a := i) (c := 12) rfl rfl (by omega) (by omega) 61 17 rfl (by decide) dX0_metBy_14 (fun c14 => ?_) (fun c14 => ?_)
      · refine g_bipush (v := -106) (by decide) 63 rfl dX0_metBy_61 ?_
        exact g_iret hR rfl (Nat.le_of_ble_eq_true rfl) (Nat.le_of_ble_eq_true rfl) ⟨congrArg (fun p => some (Value.int p)) (hx.trans (ff_end (by omega))).symm, rfl⟩ dX0_metBy_63
      · refine g_aload_n rfl ld_2 18 rfl dX0_metBy_17 ?_
        refine g_iload ld_4 20 rfl dX0_metBy_18 ?_
        refine g_aaldX (j := i) (f := r) hS.1 rfl (by omega) (by decide) 21 rfl dX0_metBy_20 ?_
        rcases hS.2 i (by omega) with ⟨hw1, x2, lo3, hi4, f5, g6, hr7, hB8, hf9, hg10⟩ | ⟨hw1, hr7⟩
        · rw [hr7]
          show G z cX0_metBy RX0 6 rX0_metBy D b σ 0 0 21 [some (.ref c), some (.ref q'), some (.ref (a 0)), some (.int (nI 12)), some (.int (nI i)), none] [.ref x2]
          refine g_astore sa_5 23 rfl dX0_metBy_21 ?_
          refine g_aload ld_5 25 rfl dX0_metBy_23 ?_
          refine g_ifnull 28 rfl dX0_metBy_25 ?_
          refine g_aload ld_5 30 rfl dX0_metBy_28 ?_
          refine g_getfN (kf := 0) hB8.1 rfl rfl in_X2 (by decide) q255 rfl 33 rfl dX0_metBy_30 ?_
          refine g_aload_n rfl ld_1 34 rfl dX0_metBy_33 ?_
          refine g_getfN (kf := 0) hB'.1 rfl rfl in_X2 (by decide) q255 rfl 37 rfl dX0_metBy_34 ?_
          refine g_icmp_eq 55 40 rfl (by decide) dX0_metBy_37 (fun c37 => ?_) (fun c37 => ?_)
          · refine g_iinc (v := nI (i + 1)) ld_4 (nI_1 _) sa_4 58 rfl dX0_metBy_55 ?_
            refine g_goto 11 (by decide) dX0_metBy_58 ?_
            refine G_lv dr_5 ?_
            exact ih11 (i + 1) (by omega) (by omega) (hx.trans (ff_miss (by omega) (by rw [decide_eq_true c37]; simp)))
          · have e9 : mtB (rowf w i) (rowg w i) f' g' = mtB f5 g6 f' g' := by unfold mtB onR; rw [hf9.1, hf9.2.1, hf9.2.2, hg10.1, hg10.2.1, hg10.2.2]; rfl
            refine g_aload ld_5 42 rfl dX0_metBy_40 ?_
            refine g_aload_n rfl ld_1 43 rfl dX0_metBy_42 ?_
            refine g_callV (As := [.ref q']) (rest := []) (ci := 2) (c_X2_meets z.l D b hB8 hB') k_X2_meets q279 hB8.1 rfl rfl rfl rfl (Nat.le_of_ble_eq_true rfl) ⟨Nat.le_of_ble_eq_true rfl, Nat.le_of_ble_eq_true rfl⟩ 0 0 (Nat.le_of_ble_eq_true rfl) (Nat.le_of_ble_eq_true rfl) (Nat.le_of_ble_eq_true rfl) (Nat.le_of_ble_eq_true rfl) 46 rfl dX0_metBy_43 (fun v σ1 hq => ?_)
            obtain ⟨rfl, rfl⟩ := hq
            refine g_if_eqB 55 49 rfl (by decide) dX0_metBy_46 (fun c46 => ?_) (fun c46 => ?_)
            · refine g_iinc (v := nI (i + 1)) ld_4 (nI_1 _) sa_4 58 rfl dX0_metBy_55 ?_
              refine g_goto 11 (by decide) dX0_metBy_58 ?_
              refine G_lv dr_5 ?_
              exact ih11 (i + 1) (by omega) (by omega) (hx.trans (ff_miss (by omega) (by rw [e9, c46, Bool.and_false])))
            · refine g_aload ld_5 51 rfl dX0_metBy_49 ?_
              refine g_getfN (kf := 0) hB8.1 rfl rfl in_X2 (by decide) q255 rfl 54 rfl dX0_metBy_51 ?_
              exact g_iret hR rfl (Nat.le_of_ble_eq_true rfl) (Nat.le_of_ble_eq_true rfl) ⟨congrArg (fun p => some (Value.int p)) (hx.trans (ff_hit (by omega) (by rw [e9, c46, decide_eq_false c37]; simp [pr, hw1]))).symm, rfl⟩ dX0_metBy_54
        · rw [hr7]
          show G z cX0_metBy RX0 6 rX0_metBy D b σ 0 0 21 [some (.ref c), some (.ref q'), some (.ref (a 0)), some (.int (nI 12)), some (.int (nI i)), none] [.null]
          refine g_astoreN sa_5 23 rfl dX0_metBy_21 ?_
          refine g_aloadN ld_5 25 rfl dX0_metBy_23 ?_
          refine g_ifnullN 55 (by decide) dX0_metBy_25 ?_
          refine g_iinc (v := nI (i + 1)) ld_4 (nI_1 _) sa_4 58 rfl dX0_metBy_55 ?_
          refine g_goto 11 (by decide) dX0_metBy_58 ?_
          refine G_lv dr_5 ?_
          exact ih11 (i + 1) (by omega) (by omega) (hx.trans (ff_miss (by omega) (by simp [pr, hw1])))
  exact lp11 (12 + 1) 0 (by omega) (by omega) (rfl)
