/-! THE REFERENCE, part 7: the drawing -/
set_option maxRecDepth 100000
def pbR (P : Nat → Int32) (i j : Nat) : Bool := !decide (i = j) && behR P (7 * i) P (7 * j)
def oN (n v : Nat) : Int32 := if v < n then nI v else -106
def lbN (P : Nat → Int32) (d : Nat → Bool) (pm j : Nat) : Nat := ffN (fun k => !d k && pbR P k j) pm 0
def nxN (P : Nat → Int32) (d : Nat → Bool) (pm : Nat) : Nat := ffN (fun k => !d k && decide (lbN P d pm k = pm)) pm 0
theorem oN_n {n : Nat} : oN n n = -106 := by simp [oN]
theorem oN_lt {n v : Nat} (h : v < n) : oN n v = nI v := if_pos h
theorem lbN_le (P : Nat → Int32) (d : Nat → Bool) (pm j : Nat) : lbN P d pm j ≤ pm := ffN_le _ _ _ (Nat.zero_le _)
theorem oN_eq {n v : Nat} (hv : v ≤ n) (hn : n < 2 ^ 31) : oN n v = -106 ↔ v = n := by
  unfold oN
  split
  · exact ⟨fun e => absurd e (nI_n106 (by omega)), fun e => absurd e (by omega)⟩
  · exact ⟨fun _ => by omega, fun _ => rfl⟩
def rX1_isPieceBehind : Room := { frames := 4, cells := 0, slots := 0, locals := 86 }
theorem k_X1_isPieceBehind : CV yX1_isPieceBehind cX1_isPieceBehind 3 (some .boolean) 2 := ⟨q1894, qs61, q81, q1895, by decide +kernel, by decide +kernel, by decide +kernel⟩
set_option maxHeartbeats 400000 in
theorem c_X1_isPieceBehind (l : Launch) (D : DD) (b : Nat) {h : Nat} {ad : Nat → Nat} {σ0 : Hp} {F : Nat → Int32} {A : Nat → Nat → Int32} {σ : Hp} (hM : MW D h ad σ0 F A σ) (i j : Nat) (hi : i < 40) (hj : j < 40) : CM l yX1_isPieceBehind cX1_isPieceBehind 3 (some .boolean) rX1_isPieceBehind D b [.ref h, .int (nI i), .int (nI j)] σ (PIx (bI (pbR (A 10) i j)) σ) := by
  refine CM_of [some (.ref h), some (.int (nI i)), some (.int (nI j))] RX1 (by decide) rfl (cat_all rfl) (Nat.le_of_ble_eq_true rfl) rfl ?_
  intro z hz hR hnm
  refine g_iload_n rfl ld_1 1 rfl dX1_isPieceBehind_0 ?_
  refine g_iload_n rfl ld_2 2 rfl dX1_isPieceBehind_1 ?_
  refine g_icmp_eqN (a := i) (c := j) rfl rfl (by omega) (by omega) 31 5 rfl (by decide) dX1_isPieceBehind_2 (fun c2 => ?_) (fun c2 => ?_)
  · refine g_iconst (v := 0) (by decide) 32 rfl dX1_isPieceBehind_31 ?_
    exact g_iret hR nz_0 (Nat.le_of_ble_eq_true rfl) (Nat.le_of_ble_eq_true rfl) ⟨congrArg (fun p => some (Value.int (bI p))) (show false = pbR (A 10) i j from by simp [pbR, *]), rfl⟩ dX1_isPieceBehind_32
  · refine g_aload_n rfl ld_0 6 rfl dX1_isPieceBehind_5 ?_
    refine g_getf (kf := 10) (v := .ref (ad 10)) hM.1 rfl rfl in_X1 (by decide) q1671 rfl 9 rfl dX1_isPieceBehind_6 ?_
    refine g_bipush (v := 7) (by decide) 11 rfl dX1_isPieceBehind_9 ?_
    refine g_iload_n rfl ld_1 12 rfl dX1_isPieceBehind_11 ?_
    refine g_imulN (a := 7) (c := i) (show (7 : Int32) = nI 7 from rfl) rfl 13 rfl dX1_isPieceBehind_12 ?_
    refine g_aload_n rfl ld_0 14 rfl dX1_isPieceBehind_13 ?_
    refine g_getf (kf := 10) (v := .ref (ad 10)) hM.1 rfl rfl in_X1 (by decide) q1671 rfl 17 rfl dX1_isPieceBehind_14 ?_
    refine g_bipush (v := 7) (by decide) 19 rfl dX1_isPieceBehind_17 ?_
    refine g_iload_n rfl ld_2 20 rfl dX1_isPieceBehind_19 ?_
    refine g_imulN (a := 7) (c := j) (show (7 : Int32) = nI 7 from rfl) rfl 21 rfl dX1_isPieceBehind_20 ?_
    refine g_callS (As := [.ref (ad 10), .int (nI (7 * i)), .ref (ad 10), .int (nI (7 * j))]) (rest := []) (c_X1_isBehind z.l D b (f := A 10) (g := A 10) hM.a10 hM.a10 (7 * i) (7 * j) (by omega) (by omega) (by omega) (by omega)) k_X1_isBehind q1809 rfl rfl (Nat.le_of_ble_eq_true rfl) ⟨Nat.le_of_ble_eq_true rfl, Nat.le_of_ble_eq_true rfl⟩ 0 0 (Nat.le_of_ble_eq_true rfl) (Nat.le_of_ble_eq_true rfl) (Nat.le_of_ble_eq_true rfl) (Nat.le_of_ble_eq_true rfl) 24 rfl dX1_isPieceBehind_21 (fun v σ1 hq => ?_)
    obtain ⟨rfl, rfl⟩ := hq
    refine g_if_eqB 31 27 rfl (by decide) dX1_isPieceBehind_24 (fun c24 => ?_) (fun c24 => ?_)
    · refine g_iconst (v := 0) (by decide) 32 rfl dX1_isPieceBehind_31 ?_
      exact g_iret hR nz_0 (Nat.le_of_ble_eq_true rfl) (Nat.le_of_ble_eq_true rfl) ⟨congrArg (fun p => some (Value.int (bI p))) (show false = pbR (A 10) i j from by simp [pbR, *]), rfl⟩ dX1_isPieceBehind_32
    · refine g_iconst (v := 1) (by decide) 28 rfl dX1_isPieceBehind_27 ?_
      refine g_goto 32 (by decide) dX1_isPieceBehind_28 ?_
      exact g_iret hR nz_1 (Nat.le_of_ble_eq_true rfl) (Nat.le_of_ble_eq_true rfl) ⟨congrArg (fun p => some (Value.int (bI p))) (show true = pbR (A 10) i j from by simp [pbR, *]), rfl⟩ dX1_isPieceBehind_32
theorem v_X1_isPieceBehind (l : Launch) (D : DD) (b : Nat) {h : Nat} {ad : Nat → Nat} {σ0 : Hp} {F : Nat → Int32} {A : Nat → Nat → Int32} {σ : Hp} (hM : MW D h ad σ0 F A σ) {w10 : Nat → Int32} (hw10 : A 10 = w10) (i j : Nat) (hi : i < 40) (hj : j < 40) : CM l yX1_isPieceBehind cX1_isPieceBehind 3 (some .boolean) rX1_isPieceBehind D b [.ref h, .int (nI i), .int (nI j)] σ (PIx (bI (pbR (w10) i j)) σ) := by
  subst hw10
  exact c_X1_isPieceBehind l D b hM i j hi hj
def rX1_lowestBehind : Room := { frames := 5, cells := 0, slots := 0, locals := 108 }
theorem k_X1_lowestBehind : CV yX1_lowestBehind cX1_lowestBehind 3 (some .int) 1 := ⟨q1890, qs60, q81, q1891, by decide +kernel, by decide +kernel, by decide +kernel⟩
set_option maxHeartbeats 400000 in
theorem c_X1_lowestBehind (l : Launch) (D : DD) (b : Nat) {h : Nat} {ad : Nat → Nat} {σ0 : Hp} {F : Nat → Int32} {A : Nat → Nat → Int32} {σ : Hp} (hM : MW D h ad σ0 F A σ) (pm : Nat) (hpm : F 11 = nI pm) (hpm40 : pm ≤ 40) (d : Nat → Bool) (hd : A 14 = fun x => bI (d x)) (j : Nat) (hj : j < 40) : CM l yX1_lowestBehind cX1_lowestBehind 3 (some .int) rX1_lowestBehind D b [.ref h, .int (nI j)] σ (PIx (oN pm (lbN (A 10) d pm j)) σ) := by
  refine CM_of [some (.ref h), some (.int (nI j)), none] RX1 (by decide) rfl (cat_all rfl) (Nat.le_of_ble_eq_true rfl) rfl ?_
  intro z hz hR hnm
  refine g_iconst (v := 0) (by decide) 1 rfl dX1_lowestBehind_0 ?_
  refine g_istore_n rfl sa_2 2 rfl dX1_lowestBehind_1 ?_
  have lp2 : ∀ (fu i : Nat), i ≤ pm → pm + 1 ≤ i + fu → (lbN (A 10) d pm j = ffN (fun k => !d k && pbR (A 10) k j) pm i) → G z cX1_lowestBehind RX1 3 rX1_lowestBehind D b σ 0 0 2 [some (.ref h), some (.int (nI j)), some (.int (nI i))] [] := by
    intro fu
    induction fu with
    | zero => intros; omega
    | succ fu ih2 =>
      intro i  hi hf hx
      refine g_iload_n rfl ld_2 3 rfl dX1_lowestBehind_2 ?_
      refine g_aload_n rfl ld_0 4 rfl dX1_lowestBehind_3 ?_
      refine g_getf (kf := 11) (v := .int (nI pm)) hM.1 (by rw [← hpm]; rfl) rfl in_X1 (by decide) q1672 rfl 7 rfl dX1_lowestBehind_4 ?_
      refine g_icmp_geN (a := i) (c := pm) rfl rfl (by omega) (by omega) 36 10 rfl (by decide) dX1_lowestBehind_7 (fun c7 => ?_) (fun c7 => ?_)
      · refine g_bipush (v := -106) (by decide) 38 rfl dX1_lowestBehind_36 ?_
        exact g_iret hR rfl (Nat.le_of_ble_eq_true rfl) (Nat.le_of_ble_eq_true rfl) ⟨congrArg (fun p => some (Value.int p)) (show oN pm (lbN (A 10) d pm j) = (-106 : Int32) from by rw [hx, ffN_end (by omega), oN_n]).symm, rfl⟩ dX1_lowestBehind_38
      · refine g_aload_n rfl ld_0 11 rfl dX1_lowestBehind_10 ?_
        refine g_getf (kf := 14) (v := .ref (ad 14)) hM.1 rfl rfl in_X1 (by decide) q1675 rfl 14 rfl dX1_lowestBehind_11 ?_
        refine g_iload_n rfl ld_2 15 rfl dX1_lowestBehind_14 ?_
        refine g_zaldE (j := i) (f := A 14) (v := bI (d i)) hM.a14 rfl (by omega) (by decide) (by rw [hd]) 16 rfl dX1_lowestBehind_15 ?_
        refine g_if_neB 30 19 rfl (by decide) dX1_lowestBehind_16 (fun c16 => ?_) (fun c16 => ?_)
        · refine g_iinc (v := nI (i + 1)) ld_2 (nI_1 _) sa_2 33 rfl dX1_lowestBehind_30 ?_
          refine g_goto 2 (by decide) dX1_lowestBehind_33 ?_
          exact ih2 (i + 1) (by omega) (by omega) (hx.trans (ffN_miss (by omega) (by simp [*])))
        · refine g_aload_n rfl ld_0 20 rfl dX1_lowestBehind_19 ?_
          refine g_iload_n rfl ld_2 21 rfl dX1_lowestBehind_20 ?_
          refine g_iload_n rfl ld_1 22 rfl dX1_lowestBehind_21 ?_
          refine g_callV (As := [.int (nI i), .int (nI j)]) (rest := []) (ci := 1) (v_X1_isPieceBehind z.l D b hM (w10 := A 10) rfl i j (by omega) (by omega)) k_X1_isPieceBehind q1892 hM.1 rfl rfl rfl rfl (Nat.le_of_ble_eq_true rfl) ⟨Nat.le_of_ble_eq_true rfl, Nat.le_of_ble_eq_true rfl⟩ 0 0 (Nat.le_of_ble_eq_true rfl) (Nat.le_of_ble_eq_true rfl) (Nat.le_of_ble_eq_true rfl) (Nat.le_of_ble_eq_true rfl) 25 rfl dX1_lowestBehind_22 (fun v σ1 hq => ?_)
          obtain ⟨rfl, rfl⟩ := hq
          refine g_if_eqB 30 28 rfl (by decide) dX1_lowestBehind_25 (fun c25 => ?_) (fun c25 => ?_)
          · refine g_iinc (v := nI (i + 1)) ld_2 (nI_1 _) sa_2 33 rfl dX1_lowestBehind_30 ?_
            refine g_goto 2 (by decide) dX1_lowestBehind_33 ?_
            exact ih2 (i + 1) (by omega) (by omega) (hx.trans (ffN_miss (by omega) (by simp [*])))
          · refine g_iload_n rfl ld_2 29 rfl dX1_lowestBehind_28 ?_
            exact g_iret hR rfl (Nat.le_of_ble_eq_true rfl) (Nat.le_of_ble_eq_true rfl) ⟨congrArg (fun p => some (Value.int p)) (show oN pm (lbN (A 10) d pm j) = nI i from by rw [hx, ffN_hit (by omega) (by simp [*]), oN_lt (by omega)]).symm, rfl⟩ dX1_lowestBehind_29
  exact lp2 (pm + 1) 0 (by omega) (by omega) (rfl)
theorem v_X1_lowestBehind (l : Launch) (D : DD) (b : Nat) {h : Nat} {ad : Nat → Nat} {σ0 : Hp} {F : Nat → Int32} {A : Nat → Nat → Int32} {σ : Hp} (hM : MW D h ad σ0 F A σ) {w10 : Nat → Int32} (hw10 : A 10 = w10) (pm : Nat) (hpm : F 11 = nI pm) (hpm40 : pm ≤ 40) (d : Nat → Bool) (hd : A 14 = fun x => bI (d x)) (j : Nat) (hj : j < 40) : CM l yX1_lowestBehind cX1_lowestBehind 3 (some .int) rX1_lowestBehind D b [.ref h, .int (nI j)] σ (PIx (oN pm (lbN (w10) d pm j)) σ) := by
  subst hw10
  exact c_X1_lowestBehind l D b hM pm hpm hpm40 d hd j hj
def rX1_nextDrawn : Room := { frames := 6, cells := 0, slots := 0, locals := 130 }
theorem k_X1_nextDrawn : CV yX1_nextDrawn cX1_nextDrawn 2 (some .int) 0 := ⟨q1886, qs59, q81, q1887, by decide +kernel, by decide +kernel, by decide +kernel⟩
set_option maxHeartbeats 400000 in
theorem c_X1_nextDrawn (l : Launch) (D : DD) (b : Nat) {h : Nat} {ad : Nat → Nat} {σ0 : Hp} {F : Nat → Int32} {A : Nat → Nat → Int32} {σ : Hp} (hM : MW D h ad σ0 F A σ) (pm : Nat) (hpm : F 11 = nI pm) (hpm40 : pm ≤ 40) (d : Nat → Bool) (hd : A 14 = fun x => bI (d x)) : CM l yX1_nextDrawn cX1_nextDrawn 2 (some .int) rX1_nextDrawn D b [.ref h] σ (PIx (oN pm (nxN (A 10) d pm)) σ) := by
  refine CM_of [some (.ref h), none] RX1 (by decide) rfl (cat_all rfl) (Nat.le_of_ble_eq_true rfl) rfl ?_
  intro z hz hR hnm
  refine g_iconst (v := 0) (by decide) 1 rfl dX1_nextDrawn_0 ?_
  refine g_istore_n rfl sa_1 2 rfl dX1_nextDrawn_1 ?_
  have lp2 : ∀ (fu i : Nat), i ≤ pm → pm + 1 ≤ i + fu → (nxN (A 10) d pm = ffN (fun k => !d k && decide (lbN (A 10) d pm k = pm)) pm i) → G z cX1_nextDrawn RX1 2 rX1_nextDrawn D b σ 0 0 2 [some (.ref h), some (.int (nI i))] [] := by
    intro fu
    induction fu with
    | zero => intros; omega
    | succ fu ih2 =>
      intro i  hi hf hx
      refine g_iload_n rfl ld_1 3 rfl dX1_nextDrawn_2 ?_
      refine g_aload_n rfl ld_0 4 rfl dX1_nextDrawn_3 ?_
      refine g_getf (kf := 11) (v := .int (nI pm)) hM.1 (by rw [← hpm]; rfl) rfl in_X1 (by decide) q1672 rfl 7 rfl dX1_nextDrawn_4 ?_
      refine g_icmp_geN (a := i) (c := pm) rfl rfl (by omega) (by omega) 37 10 rfl (by decide) dX1_nextDrawn_7 (fun c7 => ?_) (fun c7 => ?_)
      · refine g_bipush (v := -106) (by decide) 39 rfl dX1_nextDrawn_37 ?_
        exact g_iret hR rfl (Nat.le_of_ble_eq_true rfl) (Nat.le_of_ble_eq_true rfl) ⟨congrArg (fun p => some (Value.int p)) (show oN pm (nxN (A 10) d pm) = (-106 : Int32) from by rw [hx, ffN_end (by omega), oN_n]).symm, rfl⟩ dX1_nextDrawn_39
      · have hlb := oN_eq (lbN_le (A 10) d pm i) (show pm < 2 ^ 31 by omega)
        refine g_aload_n rfl ld_0 11 rfl dX1_nextDrawn_10 ?_
        refine g_getf (kf := 14) (v := .ref (ad 14)) hM.1 rfl rfl in_X1 (by decide) q1675 rfl 14 rfl dX1_nextDrawn_11 ?_
        refine g_iload_n rfl ld_1 15 rfl dX1_nextDrawn_14 ?_
        refine g_zaldE (j := i) (f := A 14) (v := bI (d i)) hM.a14 rfl (by omega) (by decide) (by rw [hd]) 16 rfl dX1_nextDrawn_15 ?_
        refine g_if_neB 31 19 rfl (by decide) dX1_nextDrawn_16 (fun c16 => ?_) (fun c16 => ?_)
        · refine g_iinc (v := nI (i + 1)) ld_1 (nI_1 _) sa_1 34 rfl dX1_nextDrawn_31 ?_
          refine g_goto 2 (by decide) dX1_nextDrawn_34 ?_
          exact ih2 (i + 1) (by omega) (by omega) (hx.trans (ffN_miss (by omega) (by first | (simp [*]; done) | (rw [hlb] at c26; simp [*]))))
        · refine g_aload_n rfl ld_0 20 rfl dX1_nextDrawn_19 ?_
          refine g_iload_n rfl ld_1 21 rfl dX1_nextDrawn_20 ?_
          refine g_callV (As := [.int (nI i)]) (rest := []) (ci := 1) (v_X1_lowestBehind z.l D b hM (w10 := A 10) rfl pm hpm (by omega) d hd i (by omega)) k_X1_lowestBehind q1888 hM.1 rfl rfl rfl rfl (Nat.le_of_ble_eq_true rfl) ⟨Nat.le_of_ble_eq_true rfl, Nat.le_of_ble_eq_true rfl⟩ 0 0 (Nat.le_of_ble_eq_true rfl) (Nat.le_of_ble_eq_true rfl) (Nat.le_of_ble_eq_true rfl) (Nat.le_of_ble_eq_true rfl) 24 rfl dX1_nextDrawn_21 (fun v σ1 hq => ?_)
          obtain ⟨rfl, rfl⟩ := hq
          refine g_bipush (v := -106) (by decide) 26 rfl dX1_nextDrawn_24 ?_
          refine g_icmp_ne 31 29 rfl (by decide) dX1_nextDrawn_26 (fun c26 => ?_) (fun c26 => ?_)
          · refine g_iinc (v := nI (i + 1)) ld_1 (nI_1 _) sa_1 34 rfl dX1_nextDrawn_31 ?_
            refine g_goto 2 (by decide) dX1_nextDrawn_34 ?_
            exact ih2 (i + 1) (by omega) (by omega) (hx.trans (ffN_miss (by omega) (by first | (simp [*]; done) | (rw [hlb] at c26; simp [*]))))
          · rw [hlb] at c26
            refine g_iload_n rfl ld_1 30 rfl dX1_nextDrawn_29 ?_
            exact g_iret hR rfl (Nat.le_of_ble_eq_true rfl) (Nat.le_of_ble_eq_true rfl) ⟨congrArg (fun p => some (Value.int p)) (show oN pm (nxN (A 10) d pm) = nI i from by rw [hx, ffN_hit (by omega) (by simp [*]), oN_lt (by omega)]).symm, rfl⟩ dX1_nextDrawn_30
  exact lp2 (pm + 1) 0 (by omega) (by omega) (rfl)
theorem v_X1_nextDrawn (l : Launch) (D : DD) (b : Nat) {h : Nat} {ad : Nat → Nat} {σ0 : Hp} {F : Nat → Int32} {A : Nat → Nat → Int32} {σ : Hp} (hM : MW D h ad σ0 F A σ) {w10 : Nat → Int32} (hw10 : A 10 = w10) (pm : Nat) (hpm : F 11 = nI pm) (hpm40 : pm ≤ 40) (d : Nat → Bool) (hd : A 14 = fun x => bI (d x)) : CM l yX1_nextDrawn cX1_nextDrawn 2 (some .int) rX1_nextDrawn D b [.ref h] σ (PIx (oN pm (nxN (w10) d pm)) σ) := by
  subst hw10
  exact c_X1_nextDrawn l D b hM pm hpm hpm40 d hd
def wkN (P : Nat → Int32) (d : Nat → Bool) (pm : Nat) : Nat → Nat
  | 0 => ffN (fun k => !d k) pm 0
  | n + 1 => lbN P d pm (wkN P d pm n)
/-- the first place of the walk that stood before; where it stood -/
def mN (P : Nat → Int32) (d : Nat → Bool) (pm : Nat) : Nat := ffN (fun m => an (fun k => decide (wkN P d pm k = wkN P d pm m)) m) 41 0
def fN (P : Nat → Int32) (d : Nat → Bool) (pm : Nat) : Nat := ffN (fun k => decide (wkN P d pm k = wkN P d pm (mN P d pm))) (mN P d pm) 0
def lpN (P : Nat → Int32) (d : Nat → Bool) (pm x : Nat) : Nat := wkN P d pm (fN P d pm + x)
def lnN (P : Nat → Int32) (d : Nat → Bool) (pm : Nat) : Nat := mN P d pm - fN P d pm
theorem ffN_spec {p : Nat → Bool} {n : Nat} : ∀ (m i : Nat), n ≤ i + m → i ≤ n → (ffN p n i < n → p (ffN p n i) = true) ∧ (∀ k, i ≤ k → k < ffN p n i → p k = false) ∧ i ≤ ffN p n i
  | 0, i, h, hi => by
    rw [ffN_end (by omega)]
    exact ⟨fun h => absurd h (by omega), fun k h1 h2 => by omega, by omega⟩
  | m + 1, i, h, hi => by
    by_cases h1 : i < n
    · cases hp : p i with
      | true => rw [ffN_hit h1 hp]; exact ⟨fun _ => hp, fun k h2 h3 => by omega, Nat.le_refl _⟩
      | false =>
        rw [ffN_miss h1 hp]
        obtain ⟨a, b, c⟩ := ffN_spec (p := p) (n := n) m (i + 1) (by omega) (by omega)
        refine ⟨a, fun k h2 h3 => ?_, by omega⟩
        by_cases hk : k = i
        · subst hk; exact hp
        · exact b k (by omega) h3
    · rw [ffN_end (by omega)]
      exact ⟨fun h => absurd h (by omega), fun k h1 h2 => by omega, by omega⟩
theorem ffN_uniq {p : Nat → Bool} {n m : Nat} (hm : m < n) (hp : p m = true) (hl : ∀ k, k < m → p k = false) : ffN p n 0 = m := by
  obtain ⟨a, b, -⟩ := ffN_spec (p := p) (n := n) n 0 (by omega) (by omega)
  rcases Nat.lt_trichotomy (ffN p n 0) m with h | h | h
  · have := a (by omega); rw [hl _ h] at this; cases this
  · exact h
  · have := b m (by omega) h; rw [hp] at this; cases this
theorem an_iff {p : Nat → Bool} : ∀ {n : Nat}, an p n = true ↔ ∃ k, k < n ∧ p k = true
  | 0 => by simp [an]
  | n + 1 => by
    simp only [an, Bool.or_eq_true, an_iff (n := n)]
    constructor
    · rintro (⟨k, h1, h2⟩ | h)
      · exact ⟨k, by omega, h2⟩
      · exact ⟨n, by omega, h⟩
    · rintro ⟨k, h1, h2⟩
      by_cases hk : k = n
      · subst hk; exact Or.inr h2
      · exact Or.inl ⟨k, by omega, h2⟩
theorem an_false {p : Nat → Bool} {n : Nat} : an p n = false ↔ ∀ k, k < n → p k = false := by
  constructor
  · intro h k hk
    cases hp : p k with
    | false => rfl
    | true => rw [an_iff.2 ⟨k, hk, hp⟩] at h; cases h
  · intro h
    cases ha : an p n with
    | false => rfl
    | true => obtain ⟨k, h1, h2⟩ := an_iff.1 ha; rw [h k h1] at h2; cases h2
/-- pigeons -/
theorem pigeon : ∀ (N m : Nat) (f : Nat → Nat), (∀ i, i < m → f i < N) → (∀ i j, i < j → j < m → f i ≠ f j) → m ≤ N
  | 0, m, f, h, _ => by
    cases m with
    | zero => exact Nat.le_refl _
    | succ m => exact absurd (h 0 (by omega)) (by omega)
  | N + 1, m, f, h, hd => by
    by_cases hx : ∃ k, k < m ∧ f k = N
    · obtain ⟨k, hk, hkN⟩ := hx
      -- move the last one into k's place
      have := pigeon N (m - 1) (fun i => if i = k then f (m - 1) else f i) (fun i hi => by
        split
        · rename_i e
          have h1 := h (m - 1) (by omega)
          have h2 : f (m - 1) ≠ N := fun e2 => hd k (m - 1) (by omega) (by omega) (by rw [hkN, e2])
          omega
        · rename_i e
          have h1 := h i (by omega)
          have h2 : f i ≠ N := fun e2 => by
            rcases Nat.lt_trichotomy i k with q | q | q
            · exact hd i k q hk (by rw [hkN, e2])
            · exact e q
            · exact hd k i q (by omega) (by rw [hkN, e2])
          omega) (fun i j hij hj => by
        split <;> split
        · omega
        · rename_i e1 e2
          exact fun e => hd j (m - 1) (by omega) (by omega) e.symm
        · rename_i e1 e2
          exact hd i (m - 1) (by omega) (by omega)
        · exact hd i j hij (by omega))
      omega
    · have := pigeon N m f (fun i hi => by
        have h1 := h i hi
        have h2 : f i ≠ N := fun e => hx ⟨i, hi, e⟩
        omega) hd
      omega
theorem la_cases (p : Nat → Bool) (d : Int32) : ∀ n, (la p d n = d ∧ ∀ k, k < n → p k = false) ∨ ∃ f, f < n ∧ p f = true ∧ la p d n = nI f
  | 0 => Or.inl ⟨rfl, fun k h => by omega⟩
  | n + 1 => by
    rw [la]
    cases hp : p n with
    | true => exact Or.inr ⟨n, by omega, hp, by simp⟩
    | false =>
      simp only [Bool.false_eq_true, if_false]
      rcases la_cases p d n with ⟨h1, h2⟩ | ⟨f, h1, h2, h3⟩
      · exact Or.inl ⟨h1, fun k hk => by
          by_cases h : k = n
          · subst h; exact hp
          · exact h2 k (by omega)⟩
      · exact Or.inr ⟨f, by omega, h2, h3⟩
/-- every undrawn piece has one behind it -/
def allB (P : Nat → Int32) (d : Nat → Bool) (pm : Nat) : Prop := ∀ j, j < pm → d j = false → lbN P d pm j < pm
theorem lbN_und {P : Nat → Int32} {d : Nat → Bool} {pm j : Nat} (h : lbN P d pm j < pm) : d (lbN P d pm j) = false := by
  have := (ffN_spec (p := fun k => !d k && pbR P k j) pm 0 (by omega) (by omega)).1 h
  simp only [Bool.and_eq_true, Bool.not_eq_true'] at this
  exact this.1
theorem wkN_ok {P : Nat → Int32} {d : Nat → Bool} {pm : Nat} (h0 : wkN P d pm 0 < pm) (hB : allB P d pm) : ∀ n, wkN P d pm n < pm ∧ d (wkN P d pm n) = false
  | 0 => ⟨h0, by
    have := (ffN_spec (p := fun k => !d k) pm 0 (by omega) (by omega)).1 h0
    simpa [wkN] using this⟩
  | n + 1 => by
    obtain ⟨h1, h2⟩ := wkN_ok h0 hB n
    have h3 := hB _ h1 h2
    exact ⟨h3, lbN_und h3⟩
theorem mf_uniq {P : Nat → Int32} {d : Nat → Bool} {pm f m : Nat} (hm : m ≤ 40) (hf : f < m) (he : wkN P d pm f = wkN P d pm m) (hd : ∀ i j, i < j → j < m → wkN P d pm i ≠ wkN P d pm j) : mN P d pm = m ∧ fN P d pm = f := by
  have e1 : mN P d pm = m := by
    refine ffN_uniq (by omega) (an_iff.2 ⟨f, hf, by simpa using he⟩) (fun k hk => an_false.2 fun j hj => ?_)
    simpa using hd j k hj hk
  refine ⟨e1, ?_⟩
  unfold fN
  rw [e1]
  refine ffN_uniq hf (by simpa using he) (fun k hk => ?_)
  simp only [decide_eq_false_iff_not]
  rw [← he]
  exact hd k f hk hf
