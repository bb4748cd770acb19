/-! THE REFERENCE, part 11: looking -/
set_option maxRecDepth 100000
def ptR (u v s : Int32) : Bool := (inR u (-32) 31 && inR v (-32) 31) && inR s 0 1
def lnR (u v s : Int32) (k : Nat) : Int32 := if k = 0 then 3 * u + 1 + s else 3 * v + 2 - s
def rlR (f : Nat → Int32) (i : Nat) (u v s : Int32) (k : Nat) : Int32 := 3 * f (i + k) - lnR u v s k
def rhR (f : Nat → Int32) (i : Nat) (u v s : Int32) (k : Nat) : Int32 := 3 * f (i + 3 + k) - lnR u v s k
def rayS (f : Nat → Int32) (i : Nat) (u v s : Int32) : Nat → Int32 × Int32 × Nat
  | 0 => (3 * f (i + 2), 3 * f (i + 5), 2)
  | k + 1 => (if (rayS f i u v s k).1 < rlR f i u v s k then rlR f i u v s k else (rayS f i u v s k).1,
      if rhR f i u v s k < (rayS f i u v s k).2.1 then rhR f i u v s k else (rayS f i u v s k).2.1,
      if rhR f i u v s k < (rayS f i u v s k).2.1 then k else (rayS f i u v s k).2.2)
def hitR (f : Nat → Int32) (i : Nat) (u v s : Int32) : Bool := decide ((rayS f i u v s 2).1 < (rayS f i u v s 2).2.1)
def farR (f : Nat → Int32) (i : Nat) (u v s : Int32) : Int32 := (rayS f i u v s 2).2.1
def sfR (f : Nat → Int32) (i : Nat) (u v s : Int32) : Nat := (rayS f i u v s 2).2.2
theorem ray_le (f : Nat → Int32) (i : Nat) (u v s : Int32) : ∀ k, k ≤ 2 → (rayS f i u v s k).2.2 ≤ 2
  | 0, _ => Nat.le_refl 2
  | k + 1, hk => by
    have := ray_le f i u v s k (by omega)
    rw [rayS]
    dsimp only
    split <;> omega
theorem sfR_le (f : Nat → Int32) (i : Nat) (u v s : Int32) : sfR f i u v s ≤ 2 := ray_le f i u v s 2 (Nat.le_refl 2)
theorem mw_ar {D : DD} {h : Nat} {ad : Nat → Nat} {σ0 : Hp} {F : Nat → Int32} {A : Nat → Nat → Int32} {σ : Hp} {kf n : Nat} {f : Nat → Int32} (H : MW D h ad σ0 F A σ) (hkn : (kf = 0 ∧ n = 84) ∨ (kf = 10 ∧ n = 280)) (hf : A kf = f) : σ (ad kf) = some (oI D n f) := by
  subst hf
  rcases hkn with ⟨rfl, rfl⟩ | ⟨rfl, rfl⟩
  · exact H.a0
  · exact H.a10
theorem nn_nat {v : Int32} (h : ¬ v < 0) : ∃ n : Nat, n < 2 ^ 31 ∧ v = nI n := by
  obtain ⟨j, hj, e⟩ := inR_nat (v := v) (m := Int32.maxValue) (N := 2147483647) (by simp only [inR, Bool.and_eq_true, Bool.not_eq_true', decide_eq_false_iff_not]; exact ⟨h, by rw [Int32.not_lt]; exact Int32.le_maxValue v⟩) (by decide)
  exact ⟨j, by omega, e⟩
def rX1_isPoint : Room := { frames := 2, cells := 0, slots := 0, locals := 34 }
theorem k_X1_isPoint : CS yX1_isPoint cX1_isPoint 3 (some .boolean) 3 := ⟨q1929, q81, q1930, by decide +kernel, by decide +kernel, by decide +kernel⟩
set_option maxHeartbeats 400000 in
theorem c_X1_isPoint (l : Launch) (D : DD) (b : Nat) {σ : Hp} (u v s : Int32) : CM l yX1_isPoint cX1_isPoint 3 (some .boolean) rX1_isPoint D b [.int u, .int v, .int s] σ (PIx (bI (ptR u v s)) σ) := by
  refine CM_of [some (.int u), some (.int v), some (.int s)] RX1 (by decide) rfl (cat_all rfl) (Nat.le_of_ble_eq_true rfl) rfl ?_
  intro z hz hR hnm
  refine g_iload_n rfl ld_0 1 rfl dX1_isPoint_0 ?_
  refine g_bipush (v := -32) (by decide) 3 rfl dX1_isPoint_1 ?_
  refine g_bipush (v := 31) (by decide) 5 rfl dX1_isPoint_3 ?_
  refine g_callS (As := [.int u, .int ((-32 : Int32)), .int ((31 : Int32))]) (rest := []) (c_X1_isIn z.l D b (σ := σ) u ((-32 : Int32)) ((31 : Int32))) k_X1_isIn q1763 rfl rfl (Nat.le_of_ble_eq_true rfl) ⟨Nat.le_of_ble_eq_true rfl, Nat.le_of_ble_eq_true rfl⟩ 0 0 (Nat.le_of_ble_eq_true rfl) (Nat.le_of_ble_eq_true rfl) (Nat.le_of_ble_eq_true rfl) (Nat.le_of_ble_eq_true rfl) 8 rfl dX1_isPoint_5 (fun v σ1 hq => ?_)
  obtain ⟨rfl, rfl⟩ := hq
  refine g_if_eqB 35 11 rfl (by decide) dX1_isPoint_8 (fun c8 => ?_) (fun c8 => ?_)
  · refine g_iconst (v := 0) (by decide) 36 rfl dX1_isPoint_35 ?_
    exact g_iret hR nz_0 (Nat.le_of_ble_eq_true rfl) (Nat.le_of_ble_eq_true rfl) ⟨congrArg (fun p => some (Value.int (bI p))) (show false = ptR u v s from by simp [ptR, *]), rfl⟩ dX1_isPoint_36
  · refine g_iload_n rfl ld_1 12 rfl dX1_isPoint_11 ?_
    refine g_bipush (v := -32) (by decide) 14 rfl dX1_isPoint_12 ?_
    refine g_bipush (v := 31) (by decide) 16 rfl dX1_isPoint_14 ?_
    refine g_callS (As := [.int v, .int ((-32 : Int32)), .int ((31 : Int32))]) (rest := []) (c_X1_isIn z.l D b (σ := σ) v ((-32 : Int32)) ((31 : Int32))) k_X1_isIn q1763 rfl rfl (Nat.le_of_ble_eq_true rfl) ⟨Nat.le_of_ble_eq_true rfl, Nat.le_of_ble_eq_true rfl⟩ 0 0 (Nat.le_of_ble_eq_true rfl) (Nat.le_of_ble_eq_true rfl) (Nat.le_of_ble_eq_true rfl) (Nat.le_of_ble_eq_true rfl) 19 rfl dX1_isPoint_16 (fun v σ1 hq => ?_)
    obtain ⟨rfl, rfl⟩ := hq
    refine g_if_eqB 35 22 rfl (by decide) dX1_isPoint_19 (fun c19 => ?_) (fun c19 => ?_)
    · refine g_iconst (v := 0) (by decide) 36 rfl dX1_isPoint_35 ?_
      exact g_iret hR nz_0 (Nat.le_of_ble_eq_true rfl) (Nat.le_of_ble_eq_true rfl) ⟨congrArg (fun p => some (Value.int (bI p))) (show false = ptR u v s from by simp [ptR, *]), rfl⟩ dX1_isPoint_36
    · refine g_iload_n rfl ld_2 23 rfl dX1_isPoint_22 ?_
      refine g_iconst (v := 0) (by decide) 24 rfl dX1_isPoint_23 ?_
      refine g_iconst (v := 1) (by decide) 25 rfl dX1_isPoint_24 ?_
      refine g_callS (As := [.int s, .int ((0 : Int32)), .int ((1 : Int32))]) (rest := []) (c_X1_isIn z.l D b (σ := σ) s ((0 : Int32)) ((1 : Int32))) k_X1_isIn q1763 rfl rfl (Nat.le_of_ble_eq_true rfl) ⟨Nat.le_of_ble_eq_true rfl, Nat.le_of_ble_eq_true rfl⟩ 0 0 (Nat.le_of_ble_eq_true rfl) (Nat.le_of_ble_eq_true rfl) (Nat.le_of_ble_eq_true rfl) (Nat.le_of_ble_eq_true rfl) 28 rfl dX1_isPoint_25 (fun v σ1 hq => ?_)
      obtain ⟨rfl, rfl⟩ := hq
      refine g_if_eqB 35 31 rfl (by decide) dX1_isPoint_28 (fun c28 => ?_) (fun c28 => ?_)
      · refine g_iconst (v := 0) (by decide) 36 rfl dX1_isPoint_35 ?_
        exact g_iret hR nz_0 (Nat.le_of_ble_eq_true rfl) (Nat.le_of_ble_eq_true rfl) ⟨congrArg (fun p => some (Value.int (bI p))) (show false = ptR u v s from by simp [ptR, *]), rfl⟩ dX1_isPoint_36
      · refine g_iconst (v := 1) (by decide) 32 rfl dX1_isPoint_31 ?_
        refine g_goto 36 (by decide) dX1_isPoint_32 ?_
        exact g_iret hR nz_1 (Nat.le_of_ble_eq_true rfl) (Nat.le_of_ble_eq_true rfl) ⟨congrArg (fun p => some (Value.int (bI p))) (show true = ptR u v s from by simp [ptR, *]), rfl⟩ dX1_isPoint_36
def rX1_isMet : Room := { frames := 1, cells := 0, slots := 0, locals := 12 }
theorem k_X1_isMet : CV yX1_isMet cX1_isMet 12 (some .boolean) 5 := ⟨q1933, qs67, q81, q1934, by decide +kernel, by decide +kernel, by decide +kernel⟩
set_option maxHeartbeats 2000000 in
theorem c_X1_isMet (l : Launch) (D : DD) (b : Nat) {h : Nat} {ad : Nat → Nat} {σ0 : Hp} {F : Nat → Int32} {A : Nat → Nat → Int32} {σ : Hp} (hM : MW D h ad σ0 F A σ) (kf n i0 : Nat) (f : Nat → Int32) (hkn : (kf = 0 ∧ n = 84) ∨ (kf = 10 ∧ n = 280)) (hfa : A kf = f) (hi : i0 + 6 ≤ n) (u v s : Int32) : CM l yX1_isMet cX1_isMet 12 (some .boolean) rX1_isMet D b [.ref h, .ref (ad kf), .int (nI i0), .int u, .int v, .int s] σ (PI (fun r σ' => r = bI (hitR f i0 u v s) ∧ MW D h ad σ0 (upd (upd F 18 (nI (sfR f i0 u v s))) 17 (farR f i0 u v s)) A σ')) := by
  have hnn : i0 + 6 ≤ n ∧ n ≤ 280 := ⟨hi, by omega⟩
  refine CM_of [some (.ref h), some (.ref (ad kf)), some (.int (nI i0)), some (.int u), some (.int v), some (.int s), none, none, none, none, none, none] RX1 (by decide) rfl (cat_all rfl) (Nat.le_of_ble_eq_true rfl) rfl ?_
  intro z hz hR hnm
  refine g_iconst (v := 3) (by decide) 1 rfl dX1_isMet_0 ?_
  refine g_aload_n rfl ld_1 2 rfl dX1_isMet_1 ?_
  refine g_iload_n rfl ld_2 3 rfl dX1_isMet_2 ?_
  refine g_iconst (v := 2) (by decide) 4 rfl dX1_isMet_3 ?_
  refine g_iaddN (a := i0) (c := 2) rfl (show (2 : Int32) = nI 2 from rfl) 5 rfl dX1_isMet_4 ?_
  refine g_iald (j := (i0 + 2)) (f := f) (mw_ar hM hkn hfa) rfl (by omega) (by omega) 6 rfl dX1_isMet_5 ?_
  refine g_imul 7 rfl dX1_isMet_6 ?_
  refine g_istore sa_6 9 rfl dX1_isMet_7 ?_
  refine g_iconst (v := 3) (by decide) 10 rfl dX1_isMet_9 ?_
  refine g_aload_n rfl ld_1 11 rfl dX1_isMet_10 ?_
  refine g_iload_n rfl ld_2 12 rfl dX1_isMet_11 ?_
  refine g_iconst (v := 5) (by decide) 13 rfl dX1_isMet_12 ?_
  refine g_iaddN (a := i0) (c := 5) rfl (show (5 : Int32) = nI 5 from rfl) 14 rfl dX1_isMet_13 ?_
  refine g_iald (j := (i0 + 5)) (f := f) (mw_ar hM hkn hfa) rfl (by omega) (by omega) 15 rfl dX1_isMet_14 ?_
  refine g_imul 16 rfl dX1_isMet_15 ?_
  refine g_istore sa_7 18 rfl dX1_isMet_16 ?_
  refine g_aload_n rfl ld_0 19 rfl dX1_isMet_18 ?_
  refine g_iconst (v := 2) (by decide) 20 rfl dX1_isMet_19 ?_
  refine gm_put (v := (2 : Int32)) 18 (by decide) hM q1679 23 rfl dX1_isMet_20 (fun σ hM => ?_)
  refine g_iconst (v := 0) (by decide) 24 rfl dX1_isMet_23 ?_
  refine g_istore sa_8 26 rfl dX1_isMet_24 ?_
  have lp26 : ∀ (fu k : Nat) (x6 : Int32) (x7 : Int32) (σ : Hp), k ≤ 2 → 2 + 1 ≤ k + fu → (x6 = (rayS f i0 u v s k).1) → (x7 = (rayS f i0 u v s k).2.1) → MW D h ad σ0 (upd F 18 (nI (rayS f i0 u v s k).2.2)) A σ → G z cX1_isMet RX1 12 rX1_isMet D b σ 0 0 26 [some (.ref h), some (.ref (ad kf)), some (.int (nI i0)), some (.int u), some (.int v), some (.int s), some (.int x6), some (.int x7), some (.int (nI k)), none, none, none] [] := by
    intro fu
    induction fu with
    | zero => intros; omega
    | succ fu ih26 =>
      intro k x6 x7 σ hk hf hx6 hx7 hM
      refine g_iload ld_8 28 rfl dX1_isMet_26 ?_
      refine g_iconst (v := 2) (by decide) 29 rfl dX1_isMet_28 ?_
      refine g_icmp_geN (a := k) (c := 2) rfl (show (2 : Int32) = nI 2 from rfl) (by omega) (by omega) 145 32 rfl (by decide) dX1_isMet_29 (fun c29 => ?_) (fun c29 => ?_)
      · obtain rfl : k = 2 := by omega
        subst hx6
        subst hx7
        refine g_aload_n rfl ld_0 146 rfl dX1_isMet_145 ?_
        refine g_iload ld_7 148 rfl dX1_isMet_146 ?_
        refine gm_put (v := (rayS f i0 u v s 2).2.1) 17 (by decide) hM q1678 151 rfl dX1_isMet_148 (fun σ hM => ?_)
        refine g_iload ld_6 153 rfl dX1_isMet_151 ?_
        refine g_iload ld_7 155 rfl dX1_isMet_153 ?_
        refine g_icmp_ge 162 158 rfl (by decide) dX1_isMet_155 (fun c155 => ?_) (fun c155 => ?_)
        · refine g_iconst (v := 0) (by decide) 163 rfl dX1_isMet_162 ?_
          have hM : MW D h ad σ0 (upd (upd F 18 (nI (sfR f i0 u v s))) 17 (farR f i0 u v s)) A σ := by
            have e1 : upd (upd F 18 (nI (sfR f i0 u v s))) 17 (farR f i0 u v s) = upd (upd F 18 (nI (rayS f i0 u v s 2).2.2)) 17 ((rayS f i0 u v s 2).2.1) := by rfl
            rw [e1]; exact hM
          have e9 : (0 : Int32) = bI (hitR f i0 u v s) := by simp [hitR, *] <;> rfl
          exact g_iret hR (nz_0) (Nat.le_of_ble_eq_true rfl) (Nat.le_of_ble_eq_true rfl) ⟨_, rfl, e9, hM⟩ dX1_isMet_163
        · refine g_iconst (v := 1) (by decide) 159 rfl dX1_isMet_158 ?_
          refine g_goto 163 (by decide) dX1_isMet_159 ?_
          have hM : MW D h ad σ0 (upd (upd F 18 (nI (sfR f i0 u v s))) 17 (farR f i0 u v s)) A σ := by
            have e1 : upd (upd F 18 (nI (sfR f i0 u v s))) 17 (farR f i0 u v s) = upd (upd F 18 (nI (rayS f i0 u v s 2).2.2)) 17 ((rayS f i0 u v s 2).2.1) := by rfl
            rw [e1]; exact hM
          have e9 : (1 : Int32) = bI (hitR f i0 u v s) := by simp [hitR, *] <;> rfl
          exact g_iret hR (nz_1) (Nat.le_of_ble_eq_true rfl) (Nat.le_of_ble_eq_true rfl) ⟨_, rfl, e9, hM⟩ dX1_isMet_163
      · have j57 : ∀ x9 : Int32, x9 = lnR u v s k → G z cX1_isMet RX1 12 rX1_isMet D b σ 0 0 57 [some (.ref h), some (.ref (ad kf)), some (.int (nI i0)), some (.int u), some (.int v), some (.int s), some (.int x6), some (.int x7), some (.int (nI k)), none, none, none] [.int x9] := by
          intro x9 hx9
          refine g_istore sa_9 59 rfl dX1_isMet_57 ?_
          refine g_iconst (v := 3) (by decide) 60 rfl dX1_isMet_59 ?_
          refine g_aload_n rfl ld_1 61 rfl dX1_isMet_60 ?_
          refine g_iload_n rfl ld_2 62 rfl dX1_isMet_61 ?_
          refine g_iload ld_8 64 rfl dX1_isMet_62 ?_
          refine g_iaddN (a := i0) (c := k) rfl rfl 65 rfl dX1_isMet_64 ?_
          refine g_iald (j := (i0 + k)) (f := f) (mw_ar hM hkn hfa) rfl (by omega) (by omega) 66 rfl dX1_isMet_65 ?_
          refine g_imul 67 rfl dX1_isMet_66 ?_
          refine g_iload ld_9 69 rfl dX1_isMet_67 ?_
          refine g_isub 70 rfl dX1_isMet_69 ?_
          refine g_istore sa_10 72 rfl dX1_isMet_70 ?_
          refine g_iconst (v := 3) (by decide) 73 rfl dX1_isMet_72 ?_
          refine g_aload_n rfl ld_1 74 rfl dX1_isMet_73 ?_
          refine g_iload_n rfl ld_2 75 rfl dX1_isMet_74 ?_
          refine g_iconst (v := 3) (by decide) 76 rfl dX1_isMet_75 ?_
          refine g_iaddN (a := i0) (c := 3) rfl (show (3 : Int32) = nI 3 from rfl) 77 rfl dX1_isMet_76 ?_
          refine g_iload ld_8 79 rfl dX1_isMet_77 ?_
          refine g_iaddN (a := (i0 + 3)) (c := k) rfl rfl 80 rfl dX1_isMet_79 ?_
          refine g_iald (j := ((i0 + 3) + k)) (f := f) (mw_ar hM hkn hfa) rfl (by omega) (by omega) 81 rfl dX1_isMet_80 ?_
          refine g_imul 82 rfl dX1_isMet_81 ?_
          refine g_iload ld_9 84 rfl dX1_isMet_82 ?_
          refine g_isub 85 rfl dX1_isMet_84 ?_
          refine g_istore sa_11 87 rfl dX1_isMet_85 ?_
          have j101 : ∀ nr : Int32, nr = (rayS f i0 u v s (k + 1)).1 → G z cX1_isMet RX1 12 rX1_isMet D b σ 0 0 101 [some (.ref h), some (.ref (ad kf)), some (.int (nI i0)), some (.int u), some (.int v), some (.int s), some (.int x6), some (.int x7), some (.int (nI k)), some (.int x9), some (.int ((((3 : Int32)) * (f ((i0 + k)))) - x9)), some (.int ((((3 : Int32)) * (f (((i0 + 3) + k)))) - x9))] [.int nr] := by
            intro nr hnr
            refine g_istore sa_6 103 rfl dX1_isMet_101 ?_
            refine g_aload_n rfl ld_0 104 rfl dX1_isMet_103 ?_
            have j120 : ∀ y : Int32, y = nI (rayS f i0 u v s (k + 1)).2.2 → G z cX1_isMet RX1 12 rX1_isMet D b σ 0 0 120 [some (.ref h), some (.ref (ad kf)), some (.int (nI i0)), some (.int u), some (.int v), some (.int s), some (.int nr), some (.int x7), some (.int (nI k)), some (.int x9), some (.int ((((3 : Int32)) * (f ((i0 + k)))) - x9)), some (.int ((((3 : Int32)) * (f (((i0 + 3) + k)))) - x9))] [.int y, .ref h] := by
              intro y hy
              refine gm_putU (v := y) 18 (by decide) hM q1679 123 rfl dX1_isMet_120 (fun σ hM => ?_)
              have j137 : ∀ fr : Int32, fr = (rayS f i0 u v s (k + 1)).2.1 → G z cX1_isMet RX1 12 rX1_isMet D b σ 0 0 137 [some (.ref h), some (.ref (ad kf)), some (.int (nI i0)), some (.int u), some (.int v), some (.int s), some (.int nr), some (.int x7), some (.int (nI k)), some (.int x9), some (.int ((((3 : Int32)) * (f ((i0 + k)))) - x9)), some (.int ((((3 : Int32)) * (f (((i0 + 3) + k)))) - x9))] [.int fr] := by
                intro fr hfr
                refine g_istore sa_7 139 rfl dX1_isMet_137 ?_
                refine g_iinc (v := nI (k + 1)) ld_8 (nI_1 _) sa_8 142 rfl dX1_isMet_139 ?_
                refine g_goto 26 (by decide) dX1_isMet_142 ?_
                refine G_lv dr_9 ?_
                refine G_lv dr_10 ?_
                refine G_lv dr_11 ?_
                have hM : MW D h ad σ0 (upd F 18 (nI (rayS f i0 u v s ((k + 1))).2.2)) A σ := by
                  have e1 : upd F 18 (nI (rayS f i0 u v s ((k + 1))).2.2) = upd F 18 y := by rw [hy]
                  rw [e1]; exact hM
                exact ih26 (k + 1) nr fr σ (by omega) (by omega) (hnr) (hfr) hM
              refine g_iload ld_11 125 rfl dX1_isMet_123 ?_
              refine g_iload ld_7 127 rfl dX1_isMet_125 ?_
              refine g_icmp_ge 135 130 rfl (by decide) dX1_isMet_127 (fun c127 => ?_) (fun c127 => ?_)
              · refine g_iload ld_7 137 rfl dX1_isMet_135 ?_
                exact j137 x7 (by rw [rayS]; simp only [rlR, rhR, ← hx9, ← hx6, ← hx7]; first | rw [if_pos c127] | rw [if_neg c127])
              · refine g_iload ld_11 132 rfl dX1_isMet_130 ?_
                refine g_goto 137 (by decide) dX1_isMet_132 ?_
                exact j137 ((((3 : Int32)) * (f (((i0 + 3) + k)))) - x9) (by rw [rayS]; simp only [rlR, rhR, ← hx9, ← hx6, ← hx7]; first | rw [if_pos c127] | rw [if_neg c127])
            refine g_iload ld_11 106 rfl dX1_isMet_104 ?_
            refine g_iload ld_7 108 rfl dX1_isMet_106 ?_
            refine g_icmp_ge 116 111 rfl (by decide) dX1_isMet_108 (fun c108 => ?_) (fun c108 => ?_)
            · refine g_aload_n rfl ld_0 117 rfl dX1_isMet_116 ?_
              refine g_getf (kf := 18) (v := .int (nI (rayS f i0 u v s k).2.2)) hM.1 rfl rfl in_X1 (by decide) q1679 rfl 120 rfl dX1_isMet_117 ?_
              exact j120 (nI (rayS f i0 u v s k).2.2) (by rw [rayS]; simp only [rlR, rhR, ← hx9, ← hx6, ← hx7]; first | rw [if_pos c108] | rw [if_neg c108])
            · refine g_iload ld_8 113 rfl dX1_isMet_111 ?_
              refine g_goto 120 (by decide) dX1_isMet_113 ?_
              exact j120 (nI k) (by rw [rayS]; simp only [rlR, rhR, ← hx9, ← hx6, ← hx7]; first | rw [if_pos c108] | rw [if_neg c108])
          refine g_iload ld_10 89 rfl dX1_isMet_87 ?_
          refine g_iload ld_6 91 rfl dX1_isMet_89 ?_
          refine g_icmp_le 99 94 rfl (by decide) dX1_isMet_91 (fun c91 => ?_) (fun c91 => ?_)
          · refine g_iload ld_6 101 rfl dX1_isMet_99 ?_
            exact j101 x6 (by rw [rayS]; simp only [rlR, rhR, ← hx9, ← hx6, ← hx7]; first | rw [if_pos c91] | rw [if_neg c91])
          · refine g_iload ld_10 96 rfl dX1_isMet_94 ?_
            refine g_goto 101 (by decide) dX1_isMet_96 ?_
            exact j101 ((((3 : Int32)) * (f ((i0 + k)))) - x9) (by rw [rayS]; simp only [rlR, rhR, ← hx9, ← hx6, ← hx7]; first | rw [if_pos c91] | rw [if_neg c91])
        refine g_iload ld_8 34 rfl dX1_isMet_32 ?_
        refine g_if_neN (a := k) rfl (by omega) 48 37 rfl (by decide) dX1_isMet_34 (fun c34 => ?_) (fun c34 => ?_)
        · refine g_iconst (v := 3) (by decide) 49 rfl dX1_isMet_48 ?_
          refine g_iload ld_4 51 rfl dX1_isMet_49 ?_
          refine g_imul 52 rfl dX1_isMet_51 ?_
          refine g_iconst (v := 2) (by decide) 53 rfl dX1_isMet_52 ?_
          refine g_iadd 54 rfl dX1_isMet_53 ?_
          refine g_iload ld_5 56 rfl dX1_isMet_54 ?_
          refine g_isub 57 rfl dX1_isMet_56 ?_
          exact j57 (((((3 : Int32)) * v) + ((2 : Int32))) - s) (by simp [lnR, *])
        · refine g_iconst (v := 3) (by decide) 38 rfl dX1_isMet_37 ?_
          refine g_iload_n rfl ld_3 39 rfl dX1_isMet_38 ?_
          refine g_imul 40 rfl dX1_isMet_39 ?_
          refine g_iconst (v := 1) (by decide) 41 rfl dX1_isMet_40 ?_
          refine g_iadd 42 rfl dX1_isMet_41 ?_
          refine g_iload ld_5 44 rfl dX1_isMet_42 ?_
          refine g_iadd 45 rfl dX1_isMet_44 ?_
          refine g_goto 57 (by decide) dX1_isMet_45 ?_
          exact j57 (((((3 : Int32)) * u) + ((1 : Int32))) + s) (by simp [lnR, *])
  have hM : MW D h ad σ0 (upd F 18 (nI (rayS f i0 u v s 0).2.2)) A σ := by
    have e1 : upd F 18 (nI (rayS f i0 u v s 0).2.2) = upd F 18 ((2 : Int32)) := by rfl
    rw [e1]; exact hM
  exact lp26 (2 + 1) 0 (((3 : Int32)) * (f ((i0 + 2)))) (((3 : Int32)) * (f ((i0 + 5)))) σ (by omega) (by omega) (rfl) (rfl) hM
