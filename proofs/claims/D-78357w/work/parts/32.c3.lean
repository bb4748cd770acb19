/-! THE COMPONENT, part 3: the space read by the reference's rows -/
set_option maxRecDepth 100000
def cfs (a : Nat → Nat) (iv : Nat → Int32) : List Value := [.ref (a 0), .ref (a 1), .int (iv 2), .ref (a 3), .int (iv 4), .int (iv 5), .ref (a 6), .ref (a 7), .ref (a 8), .ref (a 9), .int (iv 10), .int (iv 11), .ref (a 12), .ref (a 13), .ref (a 14), .ref (a 15), .ref (a 16), .int (iv 17)]
/-- the Box[] at q is the space of the rows w; r: its entries -/
def SpA (D : DD) (σ : Hp) (q : Nat) (w : Nat → Int32) (r : Nat → Option Nat) : Prop := σ q = some (oX D 12 r) ∧ ∀ k, k < 12 →
  (w (7 * k + 6) = 1 ∧ ∃ x lo hi f g, r k = some x ∧ BxA D σ x lo hi (nI k) f g ∧ (f 0 = w (7 * k) ∧ f 1 = w (7 * k + 1) ∧ f 2 = w (7 * k + 2)) ∧ g 0 = w (7 * k + 3) ∧ g 1 = w (7 * k + 4) ∧ g 2 = w (7 * k + 5)) ∨
  (w (7 * k + 6) = 0 ∧ r k = none)
def pr (w : Nat → Int32) (k : Nat) : Bool := decide (w (7 * k + 6) = 1)
def rX0_freeNumber : Room := { frames := 1, cells := 0, slots := 0, locals := 12 }
theorem k_X0_freeNumber : CV yX0_freeNumber cX0_freeNumber 2 (some .int) 0 := ⟨q273, qs0, q75, q274, by decide +kernel, by decide +kernel, by decide +kernel⟩
set_option maxHeartbeats 400000 in
theorem c_X0_freeNumber (l : Launch) (D : DD) (b : Nat) {σ : Hp} {c : Nat} {a : Nat → Nat} {iv : Nat → Int32} (hc : σ c = some (.inr (0, cfs a iv))) {w : Nat → Int32} {r : Nat → Option Nat} (hS : SpA D σ (a 0) w r) : CM l yX0_freeNumber cX0_freeNumber 2 (some .int) rX0_freeNumber D b [.ref c] σ (PIx (nI (ffN (fun k => !pr w k) 12 0)) σ) := by
  refine CM_of [some (.ref c), none] RX0 (by decide) rfl (cat_all rfl) (Nat.le_of_ble_eq_true rfl) rfl ?_
  intro z hz hR hnm
  refine g_iconst (v := 0) (by decide) 1 rfl dX0_freeNumber_0 ?_
  refine g_istore_n rfl sa_1 2 rfl dX0_freeNumber_1 ?_
  have lp2 : ∀ (fu i : Nat), i ≤ 12 → 12 + 1 ≤ i + fu → (ffN (fun k => !pr w k) 12 0 = ffN (fun k => !pr w k) 12 i) → G z cX0_freeNumber RX0 2 rX0_freeNumber D b σ 0 0 2 [some (.ref c), some (.int (nI i))] [] := by
    intro fu
    induction fu with
    | zero => intros; omega
    | succ fu ih2 =>
      intro i  hi hf hx
      refine g_iload_n rfl ld_1 3 rfl dX0_freeNumber_2 ?_
      refine g_bipush (v := 12) (by decide) 5 rfl dX0_freeNumber_3 ?_
      refine g_icmp_geN (a := i) (c := 12) rfl (show (12 : Int32) = nI 12 from rfl) (by omega) (by omega) 23 8 rfl (by decide) dX0_freeNumber_5 (fun c5 => ?_) (fun c5 => ?_)
      · refine g_iload_n rfl ld_1 24 rfl dX0_freeNumber_23 ?_
        exact g_iret hR rfl (Nat.le_of_ble_eq_true rfl) (Nat.le_of_ble_eq_true rfl) ⟨congrArg (fun p => some (Value.int (nI p))) (hx.trans ((ffN_end (by omega)).trans (by omega))).symm, rfl⟩ dX0_freeNumber_24
      · refine g_aload_n rfl ld_0 9 rfl dX0_freeNumber_8 ?_
        refine g_getf (kf := 0) hc rfl rfl in_X0 (by decide) q184 rfl 12 rfl dX0_freeNumber_9 ?_
        refine g_iload_n rfl ld_1 13 rfl dX0_freeNumber_12 ?_
        refine g_aaldX (j := i) (f := r) hS.1 rfl (by omega) (by decide) 14 rfl dX0_freeNumber_13 ?_
        rcases hS.2 i (by omega) with ⟨hw1, x2, lo3, hi4, f5, g6, hr7, hB8, hf9, hg10⟩ | ⟨hw1, hr7⟩
        · rw [hr7]
          show G z cX0_freeNumber RX0 2 rX0_freeNumber D b σ 0 0 14 [some (.ref c), some (.int (nI i))] [.ref x2]
          refine g_ifnull 17 rfl dX0_freeNumber_14 ?_
          refine g_iinc (v := nI (i + 1)) ld_1 (nI_1 _) sa_1 20 rfl dX0_freeNumber_17 ?_
          refine g_goto 2 (by decide) dX0_freeNumber_20 ?_
          exact ih2 (i + 1) (by omega) (by omega) (hx.trans (ffN_miss (by omega) (by simp [pr, hw1])))
        · rw [hr7]
          show G z cX0_freeNumber RX0 2 rX0_freeNumber D b σ 0 0 14 [some (.ref c), some (.int (nI i))] [.null]
          refine g_ifnullN 23 (by decide) dX0_freeNumber_14 ?_
          refine g_iload_n rfl ld_1 24 rfl dX0_freeNumber_23 ?_
          exact g_iret hR rfl (Nat.le_of_ble_eq_true rfl) (Nat.le_of_ble_eq_true rfl) ⟨congrArg (fun p => some (Value.int (nI p))) (hx.trans (ffN_hit (by omega) (by simp [pr, hw1]))).symm, rfl⟩ dX0_freeNumber_24
  exact lp2 (12 + 1) 0 (by omega) (by omega) (rfl)
def rX0_many : Room := { frames := 1, cells := 0, slots := 0, locals := 12 }
theorem k_X0_many : CV yX0_many cX0_many 6 (some .int) 0 := ⟨q328, qs6, q75, q329, by decide +kernel, by decide +kernel, by decide +kernel⟩
set_option maxHeartbeats 400000 in
theorem c_X0_many (l : Launch) (D : DD) (b : Nat) {σ : Hp} {c : Nat} {a : Nat → Nat} {iv : Nat → Int32} (hc : σ c = some (.inr (0, cfs a iv))) {w : Nat → Int32} {r : Nat → Option Nat} (hS : SpA D σ (a 0) w r) : CM l yX0_many cX0_many 6 (some .int) rX0_many D b [.ref c] σ (PIx (sm (fun k => bI (pr w k)) 12) σ) := by
  refine CM_of [some (.ref c), none, none, none, none, none] RX0 (by decide) rfl (cat_all rfl) (Nat.le_of_ble_eq_true rfl) rfl ?_
  intro z hz hR hnm
  refine g_iconst (v := 0) (by decide) 1 rfl dX0_many_0 ?_
  refine g_istore_n rfl sa_1 2 rfl dX0_many_1 ?_
  refine g_aload_n rfl ld_0 3 rfl dX0_many_2 ?_
  refine g_getf (kf := 0) hc rfl rfl in_X0 (by decide) q184 rfl 6 rfl dX0_many_3 ?_
  refine g_astore_n rfl sa_2 7 rfl dX0_many_6 ?_
  refine g_aload_n rfl ld_2 8 rfl dX0_many_7 ?_
  refine g_alenX hS.1 9 rfl dX0_many_8 ?_
  refine g_istore_n rfl sa_3 10 rfl dX0_many_9 ?_
  refine g_iconst (v := 0) (by decide) 11 rfl dX0_many_10 ?_
  refine g_istore sa_4 13 rfl dX0_many_11 ?_
  have lp13 : ∀ (fu i : Nat) (x1 : Int32), i ≤ 12 → 12 + 1 ≤ i + fu → (x1 = sm (fun k => bI (pr w k)) i) → G z cX0_many RX0 6 rX0_many D b σ 0 0 13 [some (.ref c), some (.int x1), some (.ref (a 0)), some (.int (nI 12)), some (.int (nI i)), none] [] := by
    intro fu
    induction fu with
    | zero => intros; omega
    | succ fu ih13 =>
      intro i x1 hi hf hx
      refine g_iload ld_4 15 rfl dX0_many_13 ?_
      refine g_iload_n rfl ld_3 16 rfl dX0_many_15 ?_
      refine g_icmp_geN (a := i) (c := 12) rfl rfl (by omega) (by omega) 44 19 rfl (by decide) dX0_many_16 (fun c16 => ?_) (fun c16 => ?_)
      · refine g_iload_n rfl ld_1 45 rfl dX0_many_44 ?_
        exact g_iret hR rfl (Nat.le_of_ble_eq_true rfl) (Nat.le_of_ble_eq_true rfl) ⟨congrArg (fun p => some (Value.int p)) (show x1 = sm (fun k => bI (pr w k)) 12 from by obtain rfl : i = 12 := (by omega); exact hx), rfl⟩ dX0_many_45
      · refine g_aload_n rfl ld_2 20 rfl dX0_many_19 ?_
        refine g_iload ld_4 22 rfl dX0_many_20 ?_
        refine g_aaldX (j := i) (f := r) hS.1 rfl (by omega) (by decide) 23 rfl dX0_many_22 ?_
        rcases hS.2 i (by omega) with ⟨hw1, x2, lo3, hi4, f5, g6, hr7, hB8, hf9, hg10⟩ | ⟨hw1, hr7⟩
        · rw [hr7]
          show G z cX0_many RX0 6 rX0_many D b σ 0 0 23 [some (.ref c), some (.int x1), some (.ref (a 0)), some (.int (nI 12)), some (.int (nI i)), none] [.ref x2]
          refine g_astore sa_5 25 rfl dX0_many_23 ?_
          refine g_iload_n rfl ld_1 26 rfl dX0_many_25 ?_
          have j36 : ∀ y : Int32, y = bI (pr w i) → G z cX0_many RX0 6 rX0_many D b σ 0 0 36 [some (.ref c), some (.int x1), some (.ref (a 0)), some (.int (nI 12)), some (.int (nI i)), some (.ref x2)] [.int y, .int x1] := by
            intro y hy
            refine g_iadd 37 rfl dX0_many_36 ?_
            refine g_istore_n rfl sa_1 38 rfl dX0_many_37 ?_
            refine g_iinc (v := nI (i + 1)) ld_4 (nI_1 _) sa_4 41 rfl dX0_many_38 ?_
            refine g_goto 13 (by decide) dX0_many_41 ?_
            refine G_lv dr_5 ?_
            exact ih13 (i + 1) (x1 + y) (by omega) (by omega) (by rw [hx, hy, sm])
          refine g_aload ld_5 28 rfl dX0_many_26 ?_
          refine g_ifnull 31 rfl dX0_many_28 ?_
          refine g_iconst (v := 1) (by decide) 32 rfl dX0_many_31 ?_
          refine g_goto 36 (by decide) dX0_many_32 ?_
          exact j36 ((1 : Int32)) (by simp [pr, hw1]; first | rfl | decide)
        · rw [hr7]
          show G z cX0_many RX0 6 rX0_many D b σ 0 0 23 [some (.ref c), some (.int x1), some (.ref (a 0)), some (.int (nI 12)), some (.int (nI i)), none] [.null]
          refine g_astoreN sa_5 25 rfl dX0_many_23 ?_
          refine g_iload_n rfl ld_1 26 rfl dX0_many_25 ?_
          have j36 : ∀ y : Int32, y = bI (pr w i) → G z cX0_many RX0 6 rX0_many D b σ 0 0 36 [some (.ref c), some (.int x1), some (.ref (a 0)), some (.int (nI 12)), some (.int (nI i)), some (.null)] [.int y, .int x1] := by
            intro y hy
            refine g_iadd 37 rfl dX0_many_36 ?_
            refine g_istore_n rfl sa_1 38 rfl dX0_many_37 ?_
            refine g_iinc (v := nI (i + 1)) ld_4 (nI_1 _) sa_4 41 rfl dX0_many_38 ?_
            refine g_goto 13 (by decide) dX0_many_41 ?_
            refine G_lv dr_5 ?_
            exact ih13 (i + 1) (x1 + y) (by omega) (by omega) (by rw [hx, hy, sm])
          refine g_aloadN ld_5 28 rfl dX0_many_26 ?_
          refine g_ifnullN 35 (by decide) dX0_many_28 ?_
          refine g_iconst (v := 0) (by decide) 36 rfl dX0_many_35 ?_
          exact j36 ((0 : Int32)) (by simp [pr, hw1]; first | rfl | decide)
  exact lp13 (12 + 1) 0 ((0 : Int32)) (by omega) (by omega) (rfl)
