/-! THE REFERENCE, part 1: boxes by rows, changes -/
def rX1_isIn : Room := { frames := 1, cells := 0, slots := 0, locals := 12 }
theorem k_X1_isIn : CS yX1_isIn cX1_isIn 3 (some .boolean) 3 := ⟨q1764, q81, q1765, by decide +kernel, by decide +kernel, by decide +kernel⟩
set_option maxHeartbeats 400000 in
theorem c_X1_isIn (l : Launch) (D : DD) (b : Nat) {σ : Hp} (v lo hi : Int32) : CM l yX1_isIn cX1_isIn 3 (some .boolean) rX1_isIn D b [.int v, .int lo, .int hi] σ (PIx (bI (inR v lo hi)) σ) := by
  refine CM_of [some (.int v), some (.int lo), some (.int hi)] RX1 (by decide) rfl (cat_all rfl) (Nat.le_of_ble_eq_true rfl) rfl ?_
  intro z hz hR hnm
  refine g_iload_n rfl ld_0 1 rfl dX1_isIn_0 ?_
  refine g_iload_n rfl ld_1 2 rfl dX1_isIn_1 ?_
  refine g_icmp_lt 14 5 rfl (by decide) dX1_isIn_2 (fun c2 => ?_) (fun c2 => ?_)
  · refine g_iconst (v := 0) (by decide) 15 rfl dX1_isIn_14 ?_
    exact g_iret hR nz_0 (Nat.le_of_ble_eq_true rfl) (Nat.le_of_ble_eq_true rfl) ⟨congrArg (fun p => some (Value.int (bI p))) (show false = inR v lo hi from by simp only [inR]; simp [*]), rfl⟩ dX1_isIn_15
  · refine g_iload_n rfl ld_0 6 rfl dX1_isIn_5 ?_
    refine g_iload_n rfl ld_2 7 rfl dX1_isIn_6 ?_
    refine g_icmp_gt 14 10 rfl (by decide) dX1_isIn_7 (fun c7 => ?_) (fun c7 => ?_)
    · refine g_iconst (v := 0) (by decide) 15 rfl dX1_isIn_14 ?_
      exact g_iret hR nz_0 (Nat.le_of_ble_eq_true rfl) (Nat.le_of_ble_eq_true rfl) ⟨congrArg (fun p => some (Value.int (bI p))) (show false = inR v lo hi from by simp only [inR]; simp [*]), rfl⟩ dX1_isIn_15
    · refine g_iconst (v := 1) (by decide) 11 rfl dX1_isIn_10 ?_
      refine g_goto 15 (by decide) dX1_isIn_11 ?_
      exact g_iret hR nz_1 (Nat.le_of_ble_eq_true rfl) (Nat.le_of_ble_eq_true rfl) ⟨congrArg (fun p => some (Value.int (bI p))) (show true = inR v lo hi from by simp only [inR]; simp [*]), rfl⟩ dX1_isIn_15
def isBx (w : Nat → Int32) (v : Int32) : Bool := inR v 0 11 && decide (w (7 * v.toNatClampNeg + 6) = 1)
theorem isBx_nI {w : Nat → Int32} {j : Nat} (h : j ≤ 11) : isBx w (nI j) = decide (w (7 * j + 6) = 1) := by
  rw [isBx, nI_clamp (by omega), show (11 : Int32) = nI 11 from rfl, inR_nI h (by decide)]; rfl
theorem isBx_in {w : Nat → Int32} {v : Int32} (h : isBx w v = true) : ∃ j : Nat, j ≤ 11 ∧ v = nI j ∧ w (7 * j + 6) = 1 := by
  simp only [isBx, Bool.and_eq_true, decide_eq_true_eq] at h
  obtain ⟨j, hj, rfl⟩ := inR_nat (N := 11) h.1 (by decide)
  rw [nI_clamp (by omega)] at h
  exact ⟨j, hj, rfl, h.2⟩
def rX1_isBox : Room := { frames := 2, cells := 0, slots := 0, locals := 34 }
theorem k_X1_isBox : CV yX1_isBox cX1_isBox 2 (some .boolean) 1 := ⟨q1761, qs48, q81, q1762, by decide +kernel, by decide +kernel, by decide +kernel⟩
set_option maxHeartbeats 400000 in
theorem c_X1_isBox (l : Launch) (D : DD) (b : Nat) {h : Nat} {ad : Nat → Nat} {σ0 : Hp} {F : Nat → Int32} {A : Nat → Nat → Int32} {σ : Hp} (hM : MW D h ad σ0 F A σ) (v : Int32) : CM l yX1_isBox cX1_isBox 2 (some .boolean) rX1_isBox D b [.ref h, .int v] σ (PIx (bI (isBx (A 0) v)) σ) := by
  refine CM_of [some (.ref h), some (.int v)] RX1 (by decide) rfl (cat_all rfl) (Nat.le_of_ble_eq_true rfl) rfl ?_
  intro z hz hR hnm
  refine g_iload_n rfl ld_1 1 rfl dX1_isBox_0 ?_
  refine g_iconst (v := 0) (by decide) 2 rfl dX1_isBox_1 ?_
  refine g_bipush (v := 11) (by decide) 4 rfl dX1_isBox_2 ?_
  refine g_callS (As := [.int v, .int ((0 : Int32)), .int ((11 : Int32))]) (rest := []) (c_X1_isIn z.l D b (σ := σ) v ((0 : Int32)) ((11 : Int32))) k_X1_isIn q1763 rfl rfl (Nat.le_of_ble_eq_true rfl) ⟨Nat.le_of_ble_eq_true rfl, Nat.le_of_ble_eq_true rfl⟩ 0 0 (Nat.le_of_ble_eq_true rfl) (Nat.le_of_ble_eq_true rfl) (Nat.le_of_ble_eq_true rfl) (Nat.le_of_ble_eq_true rfl) 7 rfl dX1_isBox_4 (fun v σ1 hq => ?_)
  obtain ⟨rfl, rfl⟩ := hq
  refine g_if_eqB 30 10 rfl (by decide) dX1_isBox_7 (fun c7 => ?_) (fun c7 => ?_)
  · refine g_iconst (v := 0) (by decide) 31 rfl dX1_isBox_30 ?_
    exact g_iret hR nz_0 (Nat.le_of_ble_eq_true rfl) (Nat.le_of_ble_eq_true rfl) ⟨congrArg (fun p => some (Value.int (bI p))) (show false = isBx (A 0) v from by simp [isBx, *]), rfl⟩ dX1_isBox_31
  · obtain ⟨j, hj, rfl⟩ := inR_nat (N := 11) c7 (by decide)
    refine g_aload_n rfl ld_0 11 rfl dX1_isBox_10 ?_
    refine g_getf (kf := 0) (v := .ref (ad 0)) hM.1 rfl rfl in_X1 (by decide) q1661 rfl 14 rfl dX1_isBox_11 ?_
    refine g_bipush (v := 7) (by decide) 16 rfl dX1_isBox_14 ?_
    refine g_iload_n rfl ld_1 17 rfl dX1_isBox_16 ?_
    refine g_imulN (a := 7) (c := j) (show (7 : Int32) = nI 7 from rfl) rfl 18 rfl dX1_isBox_17 ?_
    refine g_bipush (v := 6) (by decide) 20 rfl dX1_isBox_18 ?_
    refine g_iaddN (a := (7 * j)) (c := 6) rfl (show (6 : Int32) = nI 6 from rfl) 21 rfl dX1_isBox_20 ?_
    refine g_iald (j := ((7 * j) + 6)) (f := A 0) hM.a0 rfl (by omega) (by decide) 22 rfl dX1_isBox_21 ?_
    refine g_iconst (v := 1) (by decide) 23 rfl dX1_isBox_22 ?_
    refine g_icmp_ne 30 26 rfl (by decide) dX1_isBox_23 (fun c23 => ?_) (fun c23 => ?_)
    · refine g_iconst (v := 0) (by decide) 31 rfl dX1_isBox_30 ?_
      exact g_iret hR nz_0 (Nat.le_of_ble_eq_true rfl) (Nat.le_of_ble_eq_true rfl) ⟨congrArg (fun p => some (Value.int (bI p))) (show false = isBx (A 0) (nI j) from by rw [isBx_nI hj]; simp [*]), rfl⟩ dX1_isBox_31
    · refine g_iconst (v := 1) (by decide) 27 rfl dX1_isBox_26 ?_
      refine g_goto 31 (by decide) dX1_isBox_27 ?_
      exact g_iret hR nz_1 (Nat.le_of_ble_eq_true rfl) (Nat.le_of_ble_eq_true rfl) ⟨congrArg (fun p => some (Value.int (bI p))) (show true = isBx (A 0) (nI j) from by rw [isBx_nI hj]; simp [*]), rfl⟩ dX1_isBox_31
theorem v_X1_isBox (l : Launch) (D : DD) (b : Nat) {h : Nat} {ad : Nat → Nat} {σ0 : Hp} {F : Nat → Int32} {A : Nat → Nat → Int32} {σ : Hp} (hM : MW D h ad σ0 F A σ) {w0 : Nat → Int32} (hw0 : A 0 = w0) (v : Int32) : CM l yX1_isBox cX1_isBox 2 (some .boolean) rX1_isBox D b [.ref h, .int v] σ (PIx (bI (isBx (w0) v)) σ) := by
  subst hw0
  exact c_X1_isBox l D b hM v
def rX1_of : Room := { frames := 1, cells := 0, slots := 0, locals := 12 }
theorem k_X1_of : CV yX1_of cX1_of 3 (some .int) 2 := ⟨q1795, qs52, q81, q1796, by decide +kernel, by decide +kernel, by decide +kernel⟩
set_option maxHeartbeats 400000 in
theorem c_X1_of (l : Launch) (D : DD) (b : Nat) {h : Nat} {ad : Nat → Nat} {σ0 : Hp} {F : Nat → Int32} {A : Nat → Nat → Int32} {σ : Hp} (hM : MW D h ad σ0 F A σ) (j q : Nat) (hj : 7 * j + q < 84) : CM l yX1_of cX1_of 3 (some .int) rX1_of D b [.ref h, .int (nI j), .int (nI q)] σ (PIx (A 0 (7 * j + q)) σ) := by
  refine CM_of [some (.ref h), some (.int (nI j)), some (.int (nI q))] RX1 (by decide) rfl (cat_all rfl) (Nat.le_of_ble_eq_true rfl) rfl ?_
  intro z hz hR hnm
  refine g_aload_n rfl ld_0 1 rfl dX1_of_0 ?_
  refine g_getf (kf := 0) (v := .ref (ad 0)) hM.1 rfl rfl in_X1 (by decide) q1661 rfl 4 rfl dX1_of_1 ?_
  refine g_bipush (v := 7) (by decide) 6 rfl dX1_of_4 ?_
  refine g_iload_n rfl ld_1 7 rfl dX1_of_6 ?_
  refine g_imulN (a := 7) (c := j) (show (7 : Int32) = nI 7 from rfl) rfl 8 rfl dX1_of_7 ?_
  refine g_iload_n rfl ld_2 9 rfl dX1_of_8 ?_
  refine g_iaddN (a := (7 * j)) (c := q) rfl rfl 10 rfl dX1_of_9 ?_
  refine g_iald (j := ((7 * j) + q)) (f := A 0) hM.a0 rfl (by omega) (by decide) 11 rfl dX1_of_10 ?_
  exact g_iret hR rfl (Nat.le_of_ble_eq_true rfl) (Nat.le_of_ble_eq_true rfl) ⟨congrArg (fun p => some (Value.int p)) (show (A 0) (((7 * j) + q)) = A 0 (7 * j + q) from by rfl), rfl⟩ dX1_of_11
theorem v_X1_of (l : Launch) (D : DD) (b : Nat) {h : Nat} {ad : Nat → Nat} {σ0 : Hp} {F : Nat → Int32} {A : Nat → Nat → Int32} {σ : Hp} (hM : MW D h ad σ0 F A σ) {w0 : Nat → Int32} (hw0 : A 0 = w0) (j q : Nat) (hj : 7 * j + q < 84) : CM l yX1_of cX1_of 3 (some .int) rX1_of D b [.ref h, .int (nI j), .int (nI q)] σ (PIx (w0 (7 * j + q)) σ) := by
  subst hw0
  exact c_X1_of l D b hM j q hj
def shR (a b c d : Int32) : Bool := decide (a < d) && decide (c < b)
def rX1_share : Room := { frames := 1, cells := 0, slots := 0, locals := 12 }
theorem k_X1_share : CS yX1_share cX1_share 4 (some .boolean) 4 := ⟨q1816, q81, q1817, by decide +kernel, by decide +kernel, by decide +kernel⟩
set_option maxHeartbeats 400000 in
theorem c_X1_share (l : Launch) (D : DD) (b : Nat) {σ : Hp} (v0 v1 v2 v3 : Int32) : CM l yX1_share cX1_share 4 (some .boolean) rX1_share D b [.int v0, .int v1, .int v2, .int v3] σ (PIx (bI (shR v0 v1 v2 v3)) σ) := by
  refine CM_of [some (.int v0), some (.int v1), some (.int v2), some (.int v3)] RX1 (by decide) rfl (cat_all rfl) (Nat.le_of_ble_eq_true rfl) rfl ?_
  intro z hz hR hnm
  refine g_iload_n rfl ld_0 1 rfl dX1_share_0 ?_
  refine g_iload_n rfl ld_3 2 rfl dX1_share_1 ?_
  refine g_icmp_ge 14 5 rfl (by decide) dX1_share_2 (fun c2 => ?_) (fun c2 => ?_)
  · refine g_iconst (v := 0) (by decide) 15 rfl dX1_share_14 ?_
    exact g_iret hR nz_0 (Nat.le_of_ble_eq_true rfl) (Nat.le_of_ble_eq_true rfl) ⟨congrArg (fun p => some (Value.int (bI p))) (show false = shR v0 v1 v2 v3 from by simp [shR, *]), rfl⟩ dX1_share_15
  · refine g_iload_n rfl ld_2 6 rfl dX1_share_5 ?_
    refine g_iload_n rfl ld_1 7 rfl dX1_share_6 ?_
    refine g_icmp_ge 14 10 rfl (by decide) dX1_share_7 (fun c7 => ?_) (fun c7 => ?_)
    · refine g_iconst (v := 0) (by decide) 15 rfl dX1_share_14 ?_
      exact g_iret hR nz_0 (Nat.le_of_ble_eq_true rfl) (Nat.le_of_ble_eq_true rfl) ⟨congrArg (fun p => some (Value.int (bI p))) (show false = shR v0 v1 v2 v3 from by simp [shR, *]), rfl⟩ dX1_share_15
    · refine g_iconst (v := 1) (by decide) 11 rfl dX1_share_10 ?_
      refine g_goto 15 (by decide) dX1_share_11 ?_
      exact g_iret hR nz_1 (Nat.le_of_ble_eq_true rfl) (Nat.le_of_ble_eq_true rfl) ⟨congrArg (fun p => some (Value.int (bI p))) (show true = shR v0 v1 v2 v3 from by simp [shR, *]), rfl⟩ dX1_share_15
def mtR (f : Nat → Int32) (i : Nat) (g : Nat → Int32) (k : Nat) (x : Nat) : Bool := decide (f (i + x) < g (k + 3 + x)) && decide (g (k + x) < f (i + 3 + x))
def meetR (f : Nat → Int32) (i : Nat) (g : Nat → Int32) (k : Nat) : Bool := al (mtR f i g k) 3
def ovR (f : Nat → Int32) (i : Nat) (g : Nat → Int32) (k : Nat) (x : Nat) : Bool := shR (f (i + x) - f (i + 3 + (x + 1) % 3)) (f (i + 3 + x) - f (i + (x + 1) % 3)) (g (k + x) - g (k + 3 + (x + 1) % 3)) (g (k + 3 + x) - g (k + (x + 1) % 3))
def overR (f : Nat → Int32) (i : Nat) (g : Nat → Int32) (k : Nat) : Bool := al (ovR f i g k) 3
def bhR (f : Nat → Int32) (i : Nat) (g : Nat → Int32) (k : Nat) (x : Nat) : Bool := !decide (g (k + x) < f (i + 3 + x))
def behR (f : Nat → Int32) (i : Nat) (g : Nat → Int32) (k : Nat) : Bool := an (bhR f i g k) 3 && overR f i g k
def rX1_doMeet : Room := { frames := 1, cells := 0, slots := 0, locals := 12 }
theorem k_X1_doMeet : CS yX1_doMeet cX1_doMeet 6 (some .boolean) 4 := ⟨q1767, q81, q1768, by decide +kernel, by decide +kernel, by decide +kernel⟩
set_option maxHeartbeats 400000 in
theorem c_X1_doMeet (l : Launch) (D : DD) (b : Nat) {σ : Hp} {pa pb : Nat} {n m : Nat} {f g : Nat → Int32} (ha : σ pa = some (oI D n f)) (hb : σ pb = some (oI D m g)) (i0 k0 : Nat) (hi0 : i0 + 6 ≤ n) (hk0 : k0 + 6 ≤ m) (hn : n ≤ 1000) (hm : m ≤ 1000) : CM l yX1_doMeet cX1_doMeet 6 (some .boolean) rX1_doMeet D b [.ref pa, .int (nI i0), .ref pb, .int (nI k0)] σ (PIx (bI (meetR f i0 g k0)) σ) := by
  refine CM_of [some (.ref pa), some (.int (nI i0)), some (.ref pb), some (.int (nI k0)), none, none] RX1 (by decide) rfl (cat_all rfl) (Nat.le_of_ble_eq_true rfl) rfl ?_
  intro z hz hR hnm
  refine g_iconst (v := 1) (by decide) 1 rfl dX1_doMeet_0 ?_
  refine g_istore sa_4 3 rfl dX1_doMeet_1 ?_
  refine g_iconst (v := 0) (by decide) 4 rfl dX1_doMeet_3 ?_
  refine g_istore sa_5 6 rfl dX1_doMeet_4 ?_
  have lp6 : ∀ (fu i : Nat) (x4 : Int32), i ≤ 3 → 3 + 1 ≤ i + fu → (x4 = bI (al (mtR f i0 g k0) i)) → G z cX1_doMeet RX1 6 rX1_doMeet D b σ 0 0 6 [some (.ref pa), some (.int (nI i0)), some (.ref pb), some (.int (nI k0)), some (.int x4), some (.int (nI i))] [] := by
    intro fu
    induction fu with
    | zero => intros; omega
    | succ fu ih6 =>
      intro i x4 hi hf hx
      refine g_iload ld_5 8 rfl dX1_doMeet_6 ?_
      refine g_iconst (v := 3) (by decide) 9 rfl dX1_doMeet_8 ?_
      refine g_icmp_geN (a := i) (c := 3) rfl (show (3 : Int32) = nI 3 from rfl) (by omega) (by omega) 62 12 rfl (by decide) dX1_doMeet_9 (fun c9 => ?_) (fun c9 => ?_)
      · refine g_iload ld_4 64 rfl dX1_doMeet_62 ?_
        obtain rfl : i = 3 := by omega
        subst hx
        exact g_iret hR (nz_b _) (Nat.le_of_ble_eq_true rfl) (Nat.le_of_ble_eq_true rfl) ⟨rfl, rfl⟩ dX1_doMeet_64
      · refine g_iload ld_4 14 rfl dX1_doMeet_12 ?_
        refine g_aload_n rfl ld_0 15 rfl dX1_doMeet_14 ?_
        refine g_iload_n rfl ld_1 16 rfl dX1_doMeet_15 ?_
        refine g_iload ld_5 18 rfl dX1_doMeet_16 ?_
        refine g_iaddN (a := i0) (c := i) rfl rfl 19 rfl dX1_doMeet_18 ?_
        refine g_iald (j := (i0 + i)) (f := f) ha rfl (by omega) (by omega) 20 rfl dX1_doMeet_19 ?_
        refine g_aload_n rfl ld_2 21 rfl dX1_doMeet_20 ?_
        refine g_iload_n rfl ld_3 22 rfl dX1_doMeet_21 ?_
        refine g_iconst (v := 3) (by decide) 23 rfl dX1_doMeet_22 ?_
        refine g_iaddN (a := k0) (c := 3) rfl (show (3 : Int32) = nI 3 from rfl) 24 rfl dX1_doMeet_23 ?_
        refine g_iload ld_5 26 rfl dX1_doMeet_24 ?_
        refine g_iaddN (a := (k0 + 3)) (c := i) rfl rfl 27 rfl dX1_doMeet_26 ?_
        refine g_iald (j := ((k0 + 3) + i)) (f := g) hb rfl (by omega) (by omega) 28 rfl dX1_doMeet_27 ?_
        refine g_icmp_ge 52 31 rfl (by decide) dX1_doMeet_28 (fun c28 => ?_) (fun c28 => ?_)
        · refine g_iconst (v := 0) (by decide) 53 rfl dX1_doMeet_52 ?_
          refine g_iand 54 rfl dX1_doMeet_53 ?_
          refine g_istore sa_4 56 rfl dX1_doMeet_54 ?_
          refine g_iinc (v := nI (i + 1)) ld_5 (nI_1 _) sa_5 59 rfl dX1_doMeet_56 ?_
          refine g_goto 6 (by decide) dX1_doMeet_59 ?_
          exact ih6 (i + 1) (x4 &&& ((0 : Int32))) (by omega) (by omega) (by rw [hx, zero_b, bI_and, al]; simp [mtR, *])
        · refine g_aload_n rfl ld_2 32 rfl dX1_doMeet_31 ?_
          refine g_iload_n rfl ld_3 33 rfl dX1_doMeet_32 ?_
          refine g_iload ld_5 35 rfl dX1_doMeet_33 ?_
          refine g_iaddN (a := k0) (c := i) rfl rfl 36 rfl dX1_doMeet_35 ?_
          refine g_iald (j := (k0 + i)) (f := g) hb rfl (by omega) (by omega) 37 rfl dX1_doMeet_36 ?_
          refine g_aload_n rfl ld_0 38 rfl dX1_doMeet_37 ?_
          refine g_iload_n rfl ld_1 39 rfl dX1_doMeet_38 ?_
          refine g_iconst (v := 3) (by decide) 40 rfl dX1_doMeet_39 ?_
          refine g_iaddN (a := i0) (c := 3) rfl (show (3 : Int32) = nI 3 from rfl) 41 rfl dX1_doMeet_40 ?_
          refine g_iload ld_5 43 rfl dX1_doMeet_41 ?_
          refine g_iaddN (a := (i0 + 3)) (c := i) rfl rfl 44 rfl dX1_doMeet_43 ?_
          refine g_iald (j := ((i0 + 3) + i)) (f := f) ha rfl (by omega) (by omega) 45 rfl dX1_doMeet_44 ?_
          refine g_icmp_ge 52 48 rfl (by decide) dX1_doMeet_45 (fun c45 => ?_) (fun c45 => ?_)
          · refine g_iconst (v := 0) (by decide) 53 rfl dX1_doMeet_52 ?_
            refine g_iand 54 rfl dX1_doMeet_53 ?_
            refine g_istore sa_4 56 rfl dX1_doMeet_54 ?_
            refine g_iinc (v := nI (i + 1)) ld_5 (nI_1 _) sa_5 59 rfl dX1_doMeet_56 ?_
            refine g_goto 6 (by decide) dX1_doMeet_59 ?_
            exact ih6 (i + 1) (x4 &&& ((0 : Int32))) (by omega) (by omega) (by rw [hx, zero_b, bI_and, al]; simp [mtR, *])
          · refine g_iconst (v := 1) (by decide) 49 rfl dX1_doMeet_48 ?_
            refine g_goto 53 (by decide) dX1_doMeet_49 ?_
            refine g_iand 54 rfl dX1_doMeet_53 ?_
            refine g_istore sa_4 56 rfl dX1_doMeet_54 ?_
            refine g_iinc (v := nI (i + 1)) ld_5 (nI_1 _) sa_5 59 rfl dX1_doMeet_56 ?_
            refine g_goto 6 (by decide) dX1_doMeet_59 ?_
            exact ih6 (i + 1) (x4 &&& ((1 : Int32))) (by omega) (by omega) (by rw [hx, one_b, bI_and, al]; simp [mtR, *])
  exact lp6 (3 + 1) 0 ((1 : Int32)) (by omega) (by omega) (rfl)
def rX1_doOverlap : Room := { frames := 2, cells := 0, slots := 0, locals := 35 }
theorem k_X1_doOverlap : CS yX1_doOverlap cX1_doOverlap 7 (some .boolean) 4 := ⟨q1813, q81, q1814, by decide +kernel, by decide +kernel, by decide +kernel⟩
set_option maxHeartbeats 400000 in
theorem c_X1_doOverlap (l : Launch) (D : DD) (b : Nat) {σ : Hp} {pa pb : Nat} {n m : Nat} {f g : Nat → Int32} (ha : σ pa = some (oI D n f)) (hb : σ pb = some (oI D m g)) (i0 k0 : Nat) (hi0 : i0 + 6 ≤ n) (hk0 : k0 + 6 ≤ m) (hn : n ≤ 1000) (hm : m ≤ 1000) : CM l yX1_doOverlap cX1_doOverlap 7 (some .boolean) rX1_doOverlap D b [.ref pa, .int (nI i0), .ref pb, .int (nI k0)] σ (PIx (bI (overR f i0 g k0)) σ) := by
  refine CM_of [some (.ref pa), some (.int (nI i0)), some (.ref pb), some (.int (nI k0)), none, none, none] RX1 (by decide) rfl (cat_all rfl) (Nat.le_of_ble_eq_true rfl) rfl ?_
  intro z hz hR hnm
  refine g_iconst (v := 1) (by decide) 1 rfl dX1_doOverlap_0 ?_
  refine g_istore sa_4 3 rfl dX1_doOverlap_1 ?_
  refine g_iconst (v := 0) (by decide) 4 rfl dX1_doOverlap_3 ?_
  refine g_istore sa_5 6 rfl dX1_doOverlap_4 ?_
  have lp6 : ∀ (fu i : Nat) (x4 : Int32), i ≤ 3 → 3 + 1 ≤ i + fu → (x4 = bI (al (ovR f i0 g k0) i)) → G z cX1_doOverlap RX1 7 rX1_doOverlap D b σ 0 0 6 [some (.ref pa), some (.int (nI i0)), some (.ref pb), some (.int (nI k0)), some (.int x4), some (.int (nI i)), none] [] := by
    intro fu
    induction fu with
    | zero => intros; omega
    | succ fu ih6 =>
      intro i x4 hi hf hx
      refine g_iload ld_5 8 rfl dX1_doOverlap_6 ?_
      refine g_iconst (v := 3) (by decide) 9 rfl dX1_doOverlap_8 ?_
      refine g_icmp_geN (a := i) (c := 3) rfl (show (3 : Int32) = nI 3 from rfl) (by omega) (by omega) 94 12 rfl (by decide) dX1_doOverlap_9 (fun c9 => ?_) (fun c9 => ?_)
      · refine g_iload ld_4 96 rfl dX1_doOverlap_94 ?_
        obtain rfl : i = 3 := by omega
        subst hx
        exact g_iret hR (nz_b _) (Nat.le_of_ble_eq_true rfl) (Nat.le_of_ble_eq_true rfl) ⟨rfl, rfl⟩ dX1_doOverlap_96
      · refine g_iload ld_5 14 rfl dX1_doOverlap_12 ?_
        refine g_iconst (v := 1) (by decide) 15 rfl dX1_doOverlap_14 ?_
        refine g_iaddN (a := i) (c := 1) rfl (show (1 : Int32) = nI 1 from rfl) 16 rfl dX1_doOverlap_15 ?_
        refine g_iconst (v := 3) (by decide) 17 rfl dX1_doOverlap_16 ?_
        refine g_iremN (a := (i + 1)) (c := 3) rfl (show (3 : Int32) = nI 3 from rfl) (by omega) (by omega) (by omega) 18 rfl dX1_doOverlap_17 ?_
        refine g_istore sa_6 20 rfl dX1_doOverlap_18 ?_
        refine g_iload ld_4 22 rfl dX1_doOverlap_20 ?_
        refine g_aload_n rfl ld_0 23 rfl dX1_doOverlap_22 ?_
        refine g_iload_n rfl ld_1 24 rfl dX1_doOverlap_23 ?_
        refine g_iload ld_5 26 rfl dX1_doOverlap_24 ?_
        refine g_iaddN (a := i0) (c := i) rfl rfl 27 rfl dX1_doOverlap_26 ?_
        refine g_iald (j := (i0 + i)) (f := f) ha rfl (by omega) (by omega) 28 rfl dX1_doOverlap_27 ?_
        refine g_aload_n rfl ld_0 29 rfl dX1_doOverlap_28 ?_
        refine g_iload_n rfl ld_1 30 rfl dX1_doOverlap_29 ?_
        refine g_iconst (v := 3) (by decide) 31 rfl dX1_doOverlap_30 ?_
        refine g_iaddN (a := i0) (c := 3) rfl (show (3 : Int32) = nI 3 from rfl) 32 rfl dX1_doOverlap_31 ?_
        refine g_iload ld_6 34 rfl dX1_doOverlap_32 ?_
        refine g_iaddN (a := (i0 + 3)) (c := ((i + 1) % 3)) rfl rfl 35 rfl dX1_doOverlap_34 ?_
        refine g_iald (j := ((i0 + 3) + ((i + 1) % 3))) (f := f) ha rfl (by omega) (by omega) 36 rfl dX1_doOverlap_35 ?_
        refine g_isub 37 rfl dX1_doOverlap_36 ?_
        refine g_aload_n rfl ld_0 38 rfl dX1_doOverlap_37 ?_
        refine g_iload_n rfl ld_1 39 rfl dX1_doOverlap_38 ?_
        refine g_iconst (v := 3) (by decide) 40 rfl dX1_doOverlap_39 ?_
        refine g_iaddN (a := i0) (c := 3) rfl (show (3 : Int32) = nI 3 from rfl) 41 rfl dX1_doOverlap_40 ?_
        refine g_iload ld_5 43 rfl dX1_doOverlap_41 ?_
        refine g_iaddN (a := (i0 + 3)) (c := i) rfl rfl 44 rfl dX1_doOverlap_43 ?_
        refine g_iald (j := ((i0 + 3) + i)) (f := f) ha rfl (by omega) (by omega) 45 rfl dX1_doOverlap_44 ?_
        refine g_aload_n rfl ld_0 46 rfl dX1_doOverlap_45 ?_
        refine g_iload_n rfl ld_1 47 rfl dX1_doOverlap_46 ?_
        refine g_iload ld_6 49 rfl dX1_doOverlap_47 ?_
        refine g_iaddN (a := i0) (c := ((i + 1) % 3)) rfl rfl 50 rfl dX1_doOverlap_49 ?_
        refine g_iald (j := (i0 + ((i + 1) % 3))) (f := f) ha rfl (by omega) (by omega) 51 rfl dX1_doOverlap_50 ?_
        refine g_isub 52 rfl dX1_doOverlap_51 ?_
        refine g_aload_n rfl ld_2 53 rfl dX1_doOverlap_52 ?_
        refine g_iload_n rfl ld_3 54 rfl dX1_doOverlap_53 ?_
        refine g_iload ld_5 56 rfl dX1_doOverlap_54 ?_
        refine g_iaddN (a := k0) (c := i) rfl rfl 57 rfl dX1_doOverlap_56 ?_
        refine g_iald (j := (k0 + i)) (f := g) hb rfl (by omega) (by omega) 58 rfl dX1_doOverlap_57 ?_
        refine g_aload_n rfl ld_2 59 rfl dX1_doOverlap_58 ?_
        refine g_iload_n rfl ld_3 60 rfl dX1_doOverlap_59 ?_
        refine g_iconst (v := 3) (by decide) 61 rfl dX1_doOverlap_60 ?_
        refine g_iaddN (a := k0) (c := 3) rfl (show (3 : Int32) = nI 3 from rfl) 62 rfl dX1_doOverlap_61 ?_
        refine g_iload ld_6 64 rfl dX1_doOverlap_62 ?_
        refine g_iaddN (a := (k0 + 3)) (c := ((i + 1) % 3)) rfl rfl 65 rfl dX1_doOverlap_64 ?_
        refine g_iald (j := ((k0 + 3) + ((i + 1) % 3))) (f := g) hb rfl (by omega) (by omega) 66 rfl dX1_doOverlap_65 ?_
        refine g_isub 67 rfl dX1_doOverlap_66 ?_
        refine g_aload_n rfl ld_2 68 rfl dX1_doOverlap_67 ?_
        refine g_iload_n rfl ld_3 69 rfl dX1_doOverlap_68 ?_
        refine g_iconst (v := 3) (by decide) 70 rfl dX1_doOverlap_69 ?_
        refine g_iaddN (a := k0) (c := 3) rfl (show (3 : Int32) = nI 3 from rfl) 71 rfl dX1_doOverlap_70 ?_
        refine g_iload ld_5 73 rfl dX1_doOverlap_71 ?_
        refine g_iaddN (a := (k0 + 3)) (c := i) rfl rfl 74 rfl dX1_doOverlap_73 ?_
        refine g_iald (j := ((k0 + 3) + i)) (f := g) hb rfl (by omega) (by omega) 75 rfl dX1_doOverlap_74 ?_
        refine g_aload_n rfl ld_2 76 rfl dX1_doOverlap_75 ?_
        refine g_iload_n rfl ld_3 77 rfl dX1_doOverlap_76 ?_
        refine g_iload ld_6 79 rfl dX1_doOverlap_77 ?_
        refine g_iaddN (a := k0) (c := ((i + 1) % 3)) rfl rfl 80 rfl dX1_doOverlap_79 ?_
        refine g_iald (j := (k0 + ((i + 1) % 3))) (f := g) hb rfl (by omega) (by omega) 81 rfl dX1_doOverlap_80 ?_
        refine g_isub 82 rfl dX1_doOverlap_81 ?_
        refine g_callS (As := [.int ((f ((i0 + i))) - (f (((i0 + 3) + ((i + 1) % 3))))), .int ((f (((i0 + 3) + i))) - (f ((i0 + ((i + 1) % 3))))), .int ((g ((k0 + i))) - (g (((k0 + 3) + ((i + 1) % 3))))), .int ((g (((k0 + 3) + i))) - (g ((k0 + ((i + 1) % 3)))))]) (rest := [.int x4]) (c_X1_share z.l D b (σ := σ) ((f ((i0 + i))) - (f (((i0 + 3) + ((i + 1) % 3))))) ((f (((i0 + 3) + i))) - (f ((i0 + ((i + 1) % 3))))) ((g ((k0 + i))) - (g (((k0 + 3) + ((i + 1) % 3))))) ((g (((k0 + 3) + i))) - (g ((k0 + ((i + 1) % 3)))))) k_X1_share q1815 rfl rfl (Nat.le_of_ble_eq_true rfl) ⟨Nat.le_of_ble_eq_true rfl, Nat.le_of_ble_eq_true rfl⟩ 0 0 (Nat.le_of_ble_eq_true rfl) (Nat.le_of_ble_eq_true rfl) (Nat.le_of_ble_eq_true rfl) (Nat.le_of_ble_eq_true rfl) 85 rfl dX1_doOverlap_82 (fun v σ1 hq => ?_)
        obtain ⟨rfl, rfl⟩ := hq
        refine g_iand 86 rfl dX1_doOverlap_85 ?_
        refine g_istore sa_4 88 rfl dX1_doOverlap_86 ?_
        refine g_iinc (v := nI (i + 1)) ld_5 (nI_1 _) sa_5 91 rfl dX1_doOverlap_88 ?_
        refine g_goto 6 (by decide) dX1_doOverlap_91 ?_
        refine G_lv dr_6 ?_
        exact ih6 (i + 1) (x4 &&& (bI (shR ((f ((i0 + i))) - (f (((i0 + 3) + ((i + 1) % 3))))) ((f (((i0 + 3) + i))) - (f ((i0 + ((i + 1) % 3))))) ((g ((k0 + i))) - (g (((k0 + 3) + ((i + 1) % 3))))) ((g (((k0 + 3) + i))) - (g ((k0 + ((i + 1) % 3)))))))) (by omega) (by omega) (by rw [hx, bI_and, al]; rfl)
  exact lp6 (3 + 1) 0 ((1 : Int32)) (by omega) (by omega) (rfl)
def rX1_isBehind : Room := { frames := 3, cells := 0, slots := 0, locals := 61 }
theorem k_X1_isBehind : CS yX1_isBehind cX1_isBehind 6 (some .boolean) 4 := ⟨q1810, q81, q1811, by decide +kernel, by decide +kernel, by decide +kernel⟩
set_option maxHeartbeats 400000 in
theorem c_X1_isBehind (l : Launch) (D : DD) (b : Nat) {σ : Hp} {pa pb : Nat} {n m : Nat} {f g : Nat → Int32} (ha : σ pa = some (oI D n f)) (hb : σ pb = some (oI D m g)) (i0 k0 : Nat) (hi0 : i0 + 6 ≤ n) (hk0 : k0 + 6 ≤ m) (hn : n ≤ 1000) (hm : m ≤ 1000) : CM l yX1_isBehind cX1_isBehind 6 (some .boolean) rX1_isBehind D b [.ref pa, .int (nI i0), .ref pb, .int (nI k0)] σ (PIx (bI (behR f i0 g k0)) σ) := by
  refine CM_of [some (.ref pa), some (.int (nI i0)), some (.ref pb), some (.int (nI k0)), none, none] RX1 (by decide) rfl (cat_all rfl) (Nat.le_of_ble_eq_true rfl) rfl ?_
  intro z hz hR hnm
  refine g_iconst (v := 0) (by decide) 1 rfl dX1_isBehind_0 ?_
  refine g_istore sa_4 3 rfl dX1_isBehind_1 ?_
  refine g_iconst (v := 0) (by decide) 4 rfl dX1_isBehind_3 ?_
  refine g_istore sa_5 6 rfl dX1_isBehind_4 ?_
  have lp6 : ∀ (fu i : Nat) (x4 : Int32), i ≤ 3 → 3 + 1 ≤ i + fu → (x4 = bI (an (bhR f i0 g k0) i)) → G z cX1_isBehind RX1 6 rX1_isBehind D b σ 0 0 6 [some (.ref pa), some (.int (nI i0)), some (.ref pb), some (.int (nI k0)), some (.int x4), some (.int (nI i))] [] := by
    intro fu
    induction fu with
    | zero => intros; omega
    | succ fu ih6 =>
      intro i x4 hi hf hx
      refine g_iload ld_5 8 rfl dX1_isBehind_6 ?_
      refine g_iconst (v := 3) (by decide) 9 rfl dX1_isBehind_8 ?_
      refine g_icmp_geN (a := i) (c := 3) rfl (show (3 : Int32) = nI 3 from rfl) (by omega) (by omega) 45 12 rfl (by decide) dX1_isBehind_9 (fun c9 => ?_) (fun c9 => ?_)
      · obtain rfl : i = 3 := by omega
        subst hx
        refine g_iload ld_4 47 rfl dX1_isBehind_45 ?_
        refine g_if_eqB 64 50 rfl (by decide) dX1_isBehind_47 (fun c47 => ?_) (fun c47 => ?_)
        · refine g_iconst (v := 0) (by decide) 65 rfl dX1_isBehind_64 ?_
          exact g_iret hR nz_0 (Nat.le_of_ble_eq_true rfl) (Nat.le_of_ble_eq_true rfl) ⟨congrArg (fun p => some (Value.int (bI p))) (show false = behR f i0 g k0 from by simp [behR, *]), rfl⟩ dX1_isBehind_65
        · refine g_aload_n rfl ld_0 51 rfl dX1_isBehind_50 ?_
          refine g_iload_n rfl ld_1 52 rfl dX1_isBehind_51 ?_
          refine g_aload_n rfl ld_2 53 rfl dX1_isBehind_52 ?_
          refine g_iload_n rfl ld_3 54 rfl dX1_isBehind_53 ?_
          refine g_callS (As := [.ref pa, .int (nI i0), .ref pb, .int (nI k0)]) (rest := []) (c_X1_doOverlap z.l D b (f := f) (g := g) ha hb i0 k0 (by omega) (by omega) (by omega) (by omega)) k_X1_doOverlap q1812 rfl rfl (Nat.le_of_ble_eq_true rfl) ⟨Nat.le_of_ble_eq_true rfl, Nat.le_of_ble_eq_true rfl⟩ 0 0 (Nat.le_of_ble_eq_true rfl) (Nat.le_of_ble_eq_true rfl) (Nat.le_of_ble_eq_true rfl) (Nat.le_of_ble_eq_true rfl) 57 rfl dX1_isBehind_54 (fun v σ1 hq => ?_)
          obtain ⟨rfl, rfl⟩ := hq
          refine g_if_eqB 64 60 rfl (by decide) dX1_isBehind_57 (fun c57 => ?_) (fun c57 => ?_)
          · refine g_iconst (v := 0) (by decide) 65 rfl dX1_isBehind_64 ?_
            exact g_iret hR nz_0 (Nat.le_of_ble_eq_true rfl) (Nat.le_of_ble_eq_true rfl) ⟨congrArg (fun p => some (Value.int (bI p))) (show false = behR f i0 g k0 from by simp [behR, *]), rfl⟩ dX1_isBehind_65
          · refine g_iconst (v := 1) (by decide) 61 rfl dX1_isBehind_60 ?_
            refine g_goto 65 (by decide) dX1_isBehind_61 ?_
            exact g_iret hR nz_1 (Nat.le_of_ble_eq_true rfl) (Nat.le_of_ble_eq_true rfl) ⟨congrArg (fun p => some (Value.int (bI p))) (show true = behR f i0 g k0 from by simp [behR, *]), rfl⟩ dX1_isBehind_65
      · refine g_iload ld_4 14 rfl dX1_isBehind_12 ?_
        refine g_aload_n rfl ld_0 15 rfl dX1_isBehind_14 ?_
        refine g_iload_n rfl ld_1 16 rfl dX1_isBehind_15 ?_
        refine g_iconst (v := 3) (by decide) 17 rfl dX1_isBehind_16 ?_
        refine g_iaddN (a := i0) (c := 3) rfl (show (3 : Int32) = nI 3 from rfl) 18 rfl dX1_isBehind_17 ?_
        refine g_iload ld_5 20 rfl dX1_isBehind_18 ?_
        refine g_iaddN (a := (i0 + 3)) (c := i) rfl rfl 21 rfl dX1_isBehind_20 ?_
        refine g_iald (j := ((i0 + 3) + i)) (f := f) ha rfl (by omega) (by omega) 22 rfl dX1_isBehind_21 ?_
        refine g_aload_n rfl ld_2 23 rfl dX1_isBehind_22 ?_
        refine g_iload_n rfl ld_3 24 rfl dX1_isBehind_23 ?_
        refine g_iload ld_5 26 rfl dX1_isBehind_24 ?_
        refine g_iaddN (a := k0) (c := i) rfl rfl 27 rfl dX1_isBehind_26 ?_
        refine g_iald (j := (k0 + i)) (f := g) hb rfl (by omega) (by omega) 28 rfl dX1_isBehind_27 ?_
        refine g_icmp_gt 35 31 rfl (by decide) dX1_isBehind_28 (fun c28 => ?_) (fun c28 => ?_)
        · refine g_iconst (v := 0) (by decide) 36 rfl dX1_isBehind_35 ?_
          refine g_ior 37 rfl dX1_isBehind_36 ?_
          refine g_istore sa_4 39 rfl dX1_isBehind_37 ?_
          refine g_iinc (v := nI (i + 1)) ld_5 (nI_1 _) sa_5 42 rfl dX1_isBehind_39 ?_
          refine g_goto 6 (by decide) dX1_isBehind_42 ?_
          exact ih6 (i + 1) (x4 ||| ((0 : Int32))) (by omega) (by omega) (by rw [hx, zero_b, bI_or, an]; simp [bhR, *])
        · refine g_iconst (v := 1) (by decide) 32 rfl dX1_isBehind_31 ?_
          refine g_goto 36 (by decide) dX1_isBehind_32 ?_
          refine g_ior 37 rfl dX1_isBehind_36 ?_
          refine g_istore sa_4 39 rfl dX1_isBehind_37 ?_
          refine g_iinc (v := nI (i + 1)) ld_5 (nI_1 _) sa_5 42 rfl dX1_isBehind_39 ?_
          refine g_goto 6 (by decide) dX1_isBehind_42 ?_
          exact ih6 (i + 1) (x4 ||| ((1 : Int32))) (by omega) (by omega) (by rw [hx, one_b, bI_or, an]; simp [bhR, *])
  exact lp6 (3 + 1) 0 ((0 : Int32)) (by omega) (by omega) (rfl)
def bbR (w : Nat → Int32) (i j : Nat) : Bool := !decide (i = j) && behR w (7 * i) w (7 * j)
def rX1_isBoxBehind : Room := { frames := 4, cells := 0, slots := 0, locals := 86 }
theorem k_X1_isBoxBehind : CV yX1_isBoxBehind cX1_isBoxBehind 3 (some .boolean) 2 := ⟨q1807, qs54, q81, q1808, by decide +kernel, by decide +kernel, by decide +kernel⟩
set_option maxHeartbeats 400000 in
theorem c_X1_isBoxBehind (l : Launch) (D : DD) (b : Nat) {h : Nat} {ad : Nat → Nat} {σ0 : Hp} {F : Nat → Int32} {A : Nat → Nat → Int32} {σ : Hp} (hM : MW D h ad σ0 F A σ) (i j : Nat) (hi : i < 12) (hj : j < 12) : CM l yX1_isBoxBehind cX1_isBoxBehind 3 (some .boolean) rX1_isBoxBehind D b [.ref h, .int (nI i), .int (nI j)] σ (PIx (bI (bbR (A 0) i j)) σ) := by
  refine CM_of [some (.ref h), some (.int (nI i)), some (.int (nI j))] RX1 (by decide) rfl (cat_all rfl) (Nat.le_of_ble_eq_true rfl) rfl ?_
  intro z hz hR hnm
  refine g_iload_n rfl ld_1 1 rfl dX1_isBoxBehind_0 ?_
  refine g_iload_n rfl ld_2 2 rfl dX1_isBoxBehind_1 ?_
  refine g_icmp_eqN (a := i) (c := j) rfl rfl (by omega) (by omega) 31 5 rfl (by decide) dX1_isBoxBehind_2 (fun c2 => ?_) (fun c2 => ?_)
  · refine g_iconst (v := 0) (by decide) 32 rfl dX1_isBoxBehind_31 ?_
    exact g_iret hR nz_0 (Nat.le_of_ble_eq_true rfl) (Nat.le_of_ble_eq_true rfl) ⟨congrArg (fun p => some (Value.int (bI p))) (show false = bbR (A 0) i j from by simp [bbR, *]), rfl⟩ dX1_isBoxBehind_32
  · refine g_aload_n rfl ld_0 6 rfl dX1_isBoxBehind_5 ?_
    refine g_getf (kf := 0) (v := .ref (ad 0)) hM.1 rfl rfl in_X1 (by decide) q1661 rfl 9 rfl dX1_isBoxBehind_6 ?_
    refine g_bipush (v := 7) (by decide) 11 rfl dX1_isBoxBehind_9 ?_
    refine g_iload_n rfl ld_1 12 rfl dX1_isBoxBehind_11 ?_
    refine g_imulN (a := 7) (c := i) (show (7 : Int32) = nI 7 from rfl) rfl 13 rfl dX1_isBoxBehind_12 ?_
    refine g_aload_n rfl ld_0 14 rfl dX1_isBoxBehind_13 ?_
    refine g_getf (kf := 0) (v := .ref (ad 0)) hM.1 rfl rfl in_X1 (by decide) q1661 rfl 17 rfl dX1_isBoxBehind_14 ?_
    refine g_bipush (v := 7) (by decide) 19 rfl dX1_isBoxBehind_17 ?_
    refine g_iload_n rfl ld_2 20 rfl dX1_isBoxBehind_19 ?_
    refine g_imulN (a := 7) (c := j) (show (7 : Int32) = nI 7 from rfl) rfl 21 rfl dX1_isBoxBehind_20 ?_
    refine g_callS (As := [.ref (ad 0), .int (nI (7 * i)), .ref (ad 0), .int (nI (7 * j))]) (rest := []) (c_X1_isBehind z.l D b (f := A 0) (g := A 0) hM.a0 hM.a0 (7 * i) (7 * j) (by omega) (by omega) (by omega) (by omega)) k_X1_isBehind q1809 rfl rfl (Nat.le_of_ble_eq_true rfl) ⟨Nat.le_of_ble_eq_true rfl, Nat.le_of_ble_eq_true rfl⟩ 0 0 (Nat.le_of_ble_eq_true rfl) (Nat.le_of_ble_eq_true rfl) (Nat.le_of_ble_eq_true rfl) (Nat.le_of_ble_eq_true rfl) 24 rfl dX1_isBoxBehind_21 (fun v σ1 hq => ?_)
    obtain ⟨rfl, rfl⟩ := hq
    refine g_if_eqB 31 27 rfl (by decide) dX1_isBoxBehind_24 (fun c24 => ?_) (fun c24 => ?_)
    · refine g_iconst (v := 0) (by decide) 32 rfl dX1_isBoxBehind_31 ?_
      exact g_iret hR nz_0 (Nat.le_of_ble_eq_true rfl) (Nat.le_of_ble_eq_true rfl) ⟨congrArg (fun p => some (Value.int (bI p))) (show false = bbR (A 0) i j from by simp [bbR, *]), rfl⟩ dX1_isBoxBehind_32
    · refine g_iconst (v := 1) (by decide) 28 rfl dX1_isBoxBehind_27 ?_
      refine g_goto 32 (by decide) dX1_isBoxBehind_28 ?_
      exact g_iret hR nz_1 (Nat.le_of_ble_eq_true rfl) (Nat.le_of_ble_eq_true rfl) ⟨congrArg (fun p => some (Value.int (bI p))) (show true = bbR (A 0) i j from by simp [bbR, *]), rfl⟩ dX1_isBoxBehind_32
theorem v_X1_isBoxBehind (l : Launch) (D : DD) (b : Nat) {h : Nat} {ad : Nat → Nat} {σ0 : Hp} {F : Nat → Int32} {A : Nat → Nat → Int32} {σ : Hp} (hM : MW D h ad σ0 F A σ) {w0 : Nat → Int32} (hw0 : A 0 = w0) (i j : Nat) (hi : i < 12) (hj : j < 12) : CM l yX1_isBoxBehind cX1_isBoxBehind 3 (some .boolean) rX1_isBoxBehind D b [.ref h, .int (nI i), .int (nI j)] σ (PIx (bI (bbR (w0) i j)) σ) := by
  subst hw0
  exact c_X1_isBoxBehind l D b hM i j hi hj
def kc (c : Nat) : Nat := if c = 8 then 7 else c
def shP (p : Nat → Int32) (i : Nat) : Nat → Int32 := fun x => if x < i then p (x + 84) else p x
def cpP (q w : Nat → Int32) (s i : Nat) : Nat → Int32 := fun x => if s ≤ x ∧ x < s + i then w (x - s) else q x
theorem shP_0 (p : Nat → Int32) : shP p 0 = p := by funext x; simp [shP]
theorem shP_s (p : Nat → Int32) (i : Nat) : shP p (i + 1) = upd (shP p i) i (shP p i (i + 84)) := by
  funext x
  simp only [shP, upd]
  by_cases h : x = i
  · subst h; simp [show ¬ x + 84 < x by omega]
  · by_cases h2 : x < i
    · simp [h, h2, show x < i + 1 by omega]
    · simp [h, h2, show ¬ x < i + 1 by omega]
theorem cpP_0 (q w : Nat → Int32) (s : Nat) : cpP q w s 0 = q := by
  funext x
  simp only [cpP]
  rw [if_neg (by omega)]
theorem cpP_s (q w : Nat → Int32) (s i : Nat) : cpP q w s (i + 1) = upd (cpP q w s i) (s + i) (w i) := by
  funext x
  simp only [cpP, upd]
  by_cases h : x = s + i
  · subst h
    rw [if_pos (by omega), if_pos rfl]
    congr 1; omega
  · rw [if_neg h]
    by_cases h2 : s ≤ x ∧ x < s + i
    · rw [if_pos h2, if_pos (by omega)]
    · rw [if_neg h2, if_neg (by omega)]
def keepP (p w : Nat → Int32) (c : Nat) : Nat → Int32 := cpP (if c = 8 then shP p 588 else p) w (84 * kc c) 84
def rX1_keep : Room := { frames := 1, cells := 0, slots := 0, locals := 12 }
theorem k_X1_keep : CV yX1_keep cX1_keep 2 none 0 := ⟨q1775, qs50, q81, q1776, by decide +kernel, by decide +kernel, by decide +kernel⟩
set_option maxHeartbeats 400000 in
theorem c_X1_keep (l : Launch) (D : DD) (b : Nat) {h : Nat} {ad : Nat → Nat} {σ0 : Hp} {F : Nat → Int32} {A : Nat → Nat → Int32} {σ : Hp} (hM : MW D h ad σ0 F A σ) (c : Nat) (hc : F 2 = nI c) (hc8 : c ≤ 8) : CM l yX1_keep cX1_keep 2 none rX1_keep D b [.ref h] σ (PV (fun σ' => MW D h ad σ0 (upd F 2 (nI (kc c + 1))) (uA A 1 (keepP (A 1) (A 0) c)) σ')) := by
  refine CM_of [some (.ref h), none] RX1 (by decide) rfl (cat_all rfl) (Nat.le_of_ble_eq_true rfl) rfl ?_
  intro z hz hR hnm
  refine g_aload_n rfl ld_0 1 rfl dX1_keep_0 ?_
  refine g_getf (kf := 2) (v := .int (nI c)) hM.1 (by rw [← hc]; rfl) rfl in_X1 (by decide) q1663 rfl 4 rfl dX1_keep_1 ?_
  refine g_bipush (v := 8) (by decide) 6 rfl dX1_keep_4 ?_
  refine g_icmp_neN (a := c) (c := 8) rfl (show (8 : Int32) = nI 8 from rfl) (by omega) (by omega) 49 9 rfl (by decide) dX1_keep_6 (fun c6 => ?_) (fun c6 => ?_)
  · refine g_iconst (v := 0) (by decide) 50 rfl dX1_keep_49 ?_
    refine g_istore_n rfl sa_1 51 rfl dX1_keep_50 ?_
    have lp51 : ∀ (fu i : Nat) (σ : Hp), i ≤ 84 → 84 + 1 ≤ i + fu → MW D h ad σ0 F (uA A 1 (cpP (A 1) (A 0) (84 * c) i)) σ → G z cX1_keep RX1 2 rX1_keep D b σ 0 0 51 [some (.ref h), some (.int (nI i))] [] := by
      intro fu
      induction fu with
      | zero => intros; omega
      | succ fu ih51 =>
        intro i σ hi hf  hM
        refine g_iload_n rfl ld_1 52 rfl dX1_keep_51 ?_
        refine g_bipush (v := 84) (by decide) 54 rfl dX1_keep_52 ?_
        refine g_icmp_geN (a := i) (c := 84) rfl (show (84 : Int32) = nI 84 from rfl) (by omega) (by omega) 83 57 rfl (by decide) dX1_keep_54 (fun c54 => ?_) (fun c54 => ?_)
        · obtain rfl : i = 84 := by omega
          refine g_aload_n rfl ld_0 84 rfl dX1_keep_83 ?_
          refine g_dup rfl 85 rfl dX1_keep_84 ?_
          refine g_getf (kf := 2) (v := .int (nI c)) hM.1 (by rw [← hc]; rfl) rfl in_X1 (by decide) q1663 rfl 88 rfl dX1_keep_85 ?_
          refine g_iconst (v := 1) (by decide) 89 rfl dX1_keep_88 ?_
          refine g_iaddN (a := c) (c := 1) rfl (show (1 : Int32) = nI 1 from rfl) 90 rfl dX1_keep_89 ?_
          refine gm_put (v := nI (c + 1)) 2 (by decide) hM q1663 93 rfl dX1_keep_90 (fun σ hM => ?_)
          have hM : MW D h ad σ0 (upd F 2 (nI (kc c + 1))) (uA A 1 (keepP (A 1) (A 0) c)) σ := by
            have e1 : upd F 2 (nI (kc c + 1)) = upd F 2 (nI (c + 1)) := by simp [kc, *]
            have e2 : uA A 1 (keepP (A 1) (A 0) c) = uA A 1 (cpP (A 1) (A 0) (84 * c) 84) := by simp [keepP, kc, *]
            rw [e1, e2]; exact hM
          exact g_vret hR (Nat.le_of_ble_eq_true rfl) (Nat.le_of_ble_eq_true rfl) ⟨rfl, hM⟩ dX1_keep_93
        · refine g_aload_n rfl ld_0 58 rfl dX1_keep_57 ?_
          refine g_getf (kf := 1) (v := .ref (ad 1)) hM.1 rfl rfl in_X1 (by decide) q1662 rfl 61 rfl dX1_keep_58 ?_
          refine g_bipush (v := 84) (by decide) 63 rfl dX1_keep_61 ?_
          refine g_aload_n rfl ld_0 64 rfl dX1_keep_63 ?_
          refine g_getf (kf := 2) (v := .int (nI c)) hM.1 (by rw [← hc]; rfl) rfl in_X1 (by decide) q1663 rfl 67 rfl dX1_keep_64 ?_
          refine g_imulN (a := 84) (c := c) (show (84 : Int32) = nI 84 from rfl) rfl 68 rfl dX1_keep_67 ?_
          refine g_iload_n rfl ld_1 69 rfl dX1_keep_68 ?_
          refine g_iaddN (a := (84 * c)) (c := i) rfl rfl 70 rfl dX1_keep_69 ?_
          refine g_aload_n rfl ld_0 71 rfl dX1_keep_70 ?_
          refine g_getf (kf := 0) (v := .ref (ad 0)) hM.1 rfl rfl in_X1 (by decide) q1661 rfl 74 rfl dX1_keep_71 ?_
          refine g_iload_n rfl ld_1 75 rfl dX1_keep_74 ?_
          refine g_iald (j := i) (f := A 0) hM.a0 rfl (by omega) (by decide) 76 rfl dX1_keep_75 ?_
          refine gm_astU (j := ((84 * c) + i)) 1 (by decide) (by decide) hM rfl (by simp only [msz]; omega) 77 rfl dX1_keep_76 (fun σ hM => ?_)
          refine g_iinc (v := nI (i + 1)) ld_1 (nI_1 _) sa_1 80 rfl dX1_keep_77 ?_
          refine g_goto 51 (by decide) dX1_keep_80 ?_
          have hM : MW D h ad σ0 F (uA A 1 (cpP (A 1) (A 0) (84 * c) ((i + 1)))) σ := by
            have e2 : uA A 1 (cpP (A 1) (A 0) (84 * c) ((i + 1))) = uA A 1 (upd (cpP (A 1) (A 0) (84 * c) i) (((84 * c) + i)) ((A 0) i)) := by rw [cpP_s]
            rw [e2]; exact hM
          exact ih51 (i + 1) σ (by omega) (by omega)  hM
    have hM : MW D h ad σ0 F (uA A 1 (cpP (A 1) (A 0) (84 * c) 0)) σ := by
      have e2 : uA A 1 (cpP (A 1) (A 0) (84 * c) 0) = A := by rw [cpP_0]; exact uA_self A 1
      rw [e2]; exact hM
    exact lp51 (84 + 1) 0 σ (by omega) (by omega)  hM
  · refine g_iconst (v := 0) (by decide) 10 rfl dX1_keep_9 ?_
    refine g_istore_n rfl sa_1 11 rfl dX1_keep_10 ?_
    have lp11 : ∀ (fu i : Nat) (σ : Hp), i ≤ 588 → 588 + 1 ≤ i + fu → MW D h ad σ0 F (uA A 1 (shP (A 1) i)) σ → G z cX1_keep RX1 2 rX1_keep D b σ 0 0 11 [some (.ref h), some (.int (nI i))] [] := by
      intro fu
      induction fu with
      | zero => intros; omega
      | succ fu ih11 =>
        intro i σ hi hf  hM
        refine g_iload_n rfl ld_1 12 rfl dX1_keep_11 ?_
        refine g_sipush (v := 588) (by decide) 15 rfl dX1_keep_12 ?_
        refine g_icmp_geN (a := i) (c := 588) rfl (show (588 : Int32) = nI 588 from rfl) (by omega) (by omega) 39 18 rfl (by decide) dX1_keep_15 (fun c15 => ?_) (fun c15 => ?_)
        · obtain rfl : i = 588 := by omega
          refine g_aload_n rfl ld_0 40 rfl dX1_keep_39 ?_
          refine g_dup rfl 41 rfl dX1_keep_40 ?_
          refine g_getf (kf := 2) (v := .int (nI c)) hM.1 (by rw [← hc]; rfl) rfl in_X1 (by decide) q1663 rfl 44 rfl dX1_keep_41 ?_
          refine g_iconst (v := 1) (by decide) 45 rfl dX1_keep_44 ?_
          refine g_isubN (a := c) (c := 1) rfl (show (1 : Int32) = nI 1 from rfl) (by omega) 46 rfl dX1_keep_45 ?_
          refine gm_put (v := nI (c - 1)) 2 (by decide) hM q1663 49 rfl dX1_keep_46 (fun σ hM => ?_)
          refine g_iconst (v := 0) (by decide) 50 rfl dX1_keep_49 ?_
          refine g_istore_n rfl sa_1 51 rfl dX1_keep_50 ?_
          have lp51 : ∀ (fu i : Nat) (σ : Hp), i ≤ 84 → 84 + 1 ≤ i + fu → MW D h ad σ0 (upd F 2 (nI (c - 1))) (uA A 1 (cpP (shP (A 1) 588) (A 0) (84 * (c - 1)) i)) σ → G z cX1_keep RX1 2 rX1_keep D b σ 0 0 51 [some (.ref h), some (.int (nI i))] [] := by
            intro fu
            induction fu with
            | zero => intros; omega
            | succ fu ih51 =>
              intro i σ hi hf  hM
              refine g_iload_n rfl ld_1 52 rfl dX1_keep_51 ?_
              refine g_bipush (v := 84) (by decide) 54 rfl dX1_keep_52 ?_
              refine g_icmp_geN (a := i) (c := 84) rfl (show (84 : Int32) = nI 84 from rfl) (by omega) (by omega) 83 57 rfl (by decide) dX1_keep_54 (fun c54 => ?_) (fun c54 => ?_)
              · obtain rfl : i = 84 := by omega
                refine g_aload_n rfl ld_0 84 rfl dX1_keep_83 ?_
                refine g_dup rfl 85 rfl dX1_keep_84 ?_
                refine g_getf (kf := 2) (v := .int (nI (c - 1))) hM.1 rfl rfl in_X1 (by decide) q1663 rfl 88 rfl dX1_keep_85 ?_
                refine g_iconst (v := 1) (by decide) 89 rfl dX1_keep_88 ?_
                refine g_iaddN (a := (c - 1)) (c := 1) rfl (show (1 : Int32) = nI 1 from rfl) 90 rfl dX1_keep_89 ?_
                refine gm_putU (v := nI ((c - 1) + 1)) 2 (by decide) hM q1663 93 rfl dX1_keep_90 (fun σ hM => ?_)
                have hM : MW D h ad σ0 (upd F 2 (nI (kc c + 1))) (uA A 1 (keepP (A 1) (A 0) c)) σ := by
                  have e1 : upd F 2 (nI (kc c + 1)) = upd F 2 (nI ((c - 1) + 1)) := by simp [kc, *]
                  have e2 : uA A 1 (keepP (A 1) (A 0) c) = uA A 1 (cpP (shP (A 1) 588) (A 0) (84 * (c - 1)) 84) := by simp [keepP, kc, *]
                  rw [e1, e2]; exact hM
                exact g_vret hR (Nat.le_of_ble_eq_true rfl) (Nat.le_of_ble_eq_true rfl) ⟨rfl, hM⟩ dX1_keep_93
              · refine g_aload_n rfl ld_0 58 rfl dX1_keep_57 ?_
                refine g_getf (kf := 1) (v := .ref (ad 1)) hM.1 rfl rfl in_X1 (by decide) q1662 rfl 61 rfl dX1_keep_58 ?_
                refine g_bipush (v := 84) (by decide) 63 rfl dX1_keep_61 ?_
                refine g_aload_n rfl ld_0 64 rfl dX1_keep_63 ?_
                refine g_getf (kf := 2) (v := .int (nI (c - 1))) hM.1 rfl rfl in_X1 (by decide) q1663 rfl 67 rfl dX1_keep_64 ?_
                refine g_imulN (a := 84) (c := (c - 1)) (show (84 : Int32) = nI 84 from rfl) rfl 68 rfl dX1_keep_67 ?_
                refine g_iload_n rfl ld_1 69 rfl dX1_keep_68 ?_
                refine g_iaddN (a := (84 * (c - 1))) (c := i) rfl rfl 70 rfl dX1_keep_69 ?_
                refine g_aload_n rfl ld_0 71 rfl dX1_keep_70 ?_
                refine g_getf (kf := 0) (v := .ref (ad 0)) hM.1 rfl rfl in_X1 (by decide) q1661 rfl 74 rfl dX1_keep_71 ?_
                refine g_iload_n rfl ld_1 75 rfl dX1_keep_74 ?_
                refine g_iald (j := i) (f := A 0) hM.a0 rfl (by omega) (by decide) 76 rfl dX1_keep_75 ?_
                refine gm_astU (j := ((84 * (c - 1)) + i)) 1 (by decide) (by decide) hM rfl (by simp only [msz]; omega) 77 rfl dX1_keep_76 (fun σ hM => ?_)
                refine g_iinc (v := nI (i + 1)) ld_1 (nI_1 _) sa_1 80 rfl dX1_keep_77 ?_
                refine g_goto 51 (by decide) dX1_keep_80 ?_
                have hM : MW D h ad σ0 (upd F 2 (nI (c - 1))) (uA A 1 (cpP (shP (A 1) 588) (A 0) (84 * (c - 1)) ((i + 1)))) σ := by
                  have e2 : uA A 1 (cpP (shP (A 1) 588) (A 0) (84 * (c - 1)) ((i + 1))) = uA A 1 (upd (cpP (shP (A 1) 588) (A 0) (84 * (c - 1)) i) (((84 * (c - 1)) + i)) ((A 0) i)) := by rw [cpP_s]
                  rw [e2]; exact hM
                exact ih51 (i + 1) σ (by omega) (by omega)  hM
          have hM : MW D h ad σ0 (upd F 2 (nI (c - 1))) (uA A 1 (cpP (shP (A 1) 588) (A 0) (84 * (c - 1)) 0)) σ := by
            have e2 : uA A 1 (cpP (shP (A 1) 588) (A 0) (84 * (c - 1)) 0) = uA A 1 (shP (A 1) 588) := by rw [cpP_0]
            rw [e2]; exact hM
          exact lp51 (84 + 1) 0 σ (by omega) (by omega)  hM
        · refine g_aload_n rfl ld_0 19 rfl dX1_keep_18 ?_
          refine g_getf (kf := 1) (v := .ref (ad 1)) hM.1 rfl rfl in_X1 (by decide) q1662 rfl 22 rfl dX1_keep_19 ?_
          refine g_iload_n rfl ld_1 23 rfl dX1_keep_22 ?_
          refine g_aload_n rfl ld_0 24 rfl dX1_keep_23 ?_
          refine g_getf (kf := 1) (v := .ref (ad 1)) hM.1 rfl rfl in_X1 (by decide) q1662 rfl 27 rfl dX1_keep_24 ?_
          refine g_iload_n rfl ld_1 28 rfl dX1_keep_27 ?_
          refine g_bipush (v := 84) (by decide) 30 rfl dX1_keep_28 ?_
          refine g_iaddN (a := i) (c := 84) rfl (show (84 : Int32) = nI 84 from rfl) 31 rfl dX1_keep_30 ?_
          refine g_iald (j := (i + 84)) (f := shP (A 1) i) hM.a1 rfl (by omega) (by decide) 32 rfl dX1_keep_31 ?_
          refine gm_astU (j := i) 1 (by decide) (by decide) hM rfl (by simp only [msz]; omega) 33 rfl dX1_keep_32 (fun σ hM => ?_)
          refine g_iinc (v := nI (i + 1)) ld_1 (nI_1 _) sa_1 36 rfl dX1_keep_33 ?_
          refine g_goto 11 (by decide) dX1_keep_36 ?_
          have hM : MW D h ad σ0 F (uA A 1 (shP (A 1) ((i + 1)))) σ := by
            have e2 : uA A 1 (shP (A 1) ((i + 1))) = uA A 1 (upd (shP (A 1) i) i ((shP (A 1) i) ((i + 84)))) := by rw [shP_s]
            rw [e2]; exact hM
          exact ih11 (i + 1) σ (by omega) (by omega)  hM
    have hM : MW D h ad σ0 F (uA A 1 (shP (A 1) 0)) σ := by
      have e2 : uA A 1 (shP (A 1) 0) = A := by rw [shP_0, uA_self]
      rw [e2]; exact hM
    exact lp11 (588 + 1) 0 σ (by omega) (by omega)  hM
theorem v_X1_keep (l : Launch) (D : DD) (b : Nat) {h : Nat} {ad : Nat → Nat} {σ0 : Hp} {F : Nat → Int32} {A : Nat → Nat → Int32} {σ : Hp} (hM : MW D h ad σ0 F A σ) {w0 : Nat → Int32} (hw0 : A 0 = w0) {w1 : Nat → Int32} (hw1 : A 1 = w1) (c : Nat) (hc : F 2 = nI c) (hc8 : c ≤ 8) : CM l yX1_keep cX1_keep 2 none rX1_keep D b [.ref h] σ (PV (fun σ' => MW D h ad σ0 (upd F 2 (nI (kc c + 1))) (uA A 1 (keepP (w1) (w0) c)) σ')) := by
  subst hw0
  subst hw1
  exact c_X1_keep l D b hM c hc hc8
def tr6 (t : Nat → Int32) (a0 a1 a2 a3 a4 a5 : Int32) : Nat → Int32 := upd (upd (upd (upd (upd (upd t 0 a0) 1 a1) 2 a2) 3 a3) 4 a4) 5 a5
def okR (t : Nat → Int32) (x : Nat) : Bool := !decide (t x < 0) && decide (t x < t (x + 3)) && !decide (32 < t (x + 3))
def possR (t : Nat → Int32) : Bool := al (okR t) 3
def rX1_isTrial : Room := { frames := 1, cells := 0, slots := 0, locals := 12 }
theorem k_X1_isTrial : CV yX1_isTrial cX1_isTrial 9 (some .boolean) 6 := ⟨q1753, qs46, q81, q1754, by decide +kernel, by decide +kernel, by decide +kernel⟩
set_option maxHeartbeats 1000000 in
theorem c_X1_isTrial (l : Launch) (D : DD) (b : Nat) {h : Nat} {ad : Nat → Nat} {σ0 : Hp} {F : Nat → Int32} {A : Nat → Nat → Int32} {σ : Hp} (hM : MW D h ad σ0 F A σ) (a0 a1 a2 a3 a4 a5 : Int32) : CM l yX1_isTrial cX1_isTrial 9 (some .boolean) rX1_isTrial D b [.ref h, .int a0, .int a1, .int a2, .int a3, .int a4, .int a5] σ (PI (fun r σ' => r = bI (possR (tr6 (A 7) a0 a1 a2 a3 a4 a5)) ∧ MW D h ad σ0 F (uA A 7 (tr6 (A 7) a0 a1 a2 a3 a4 a5)) σ')) := by
  refine CM_of [some (.ref h), some (.int a0), some (.int a1), some (.int a2), some (.int a3), some (.int a4), some (.int a5), none, none] RX1 (by decide) rfl (cat_all rfl) (Nat.le_of_ble_eq_true rfl) rfl ?_
  intro z hz hR hnm
  refine g_aload_n rfl ld_0 1 rfl dX1_isTrial_0 ?_
  refine g_getf (kf := 7) (v := .ref (ad 7)) hM.1 rfl rfl in_X1 (by decide) q1668 rfl 4 rfl dX1_isTrial_1 ?_
  refine g_iconst (v := 0) (by decide) 5 rfl dX1_isTrial_4 ?_
  refine g_iload_n rfl ld_1 6 rfl dX1_isTrial_5 ?_
  refine gm_ast (j := 0) 7 (by decide) (by decide) hM (show (0 : Int32) = nI 0 from rfl) (by simp only [msz]; omega) 7 rfl dX1_isTrial_6 (fun σ hM => ?_)
  refine g_aload_n rfl ld_0 8 rfl dX1_isTrial_7 ?_
  refine g_getf (kf := 7) (v := .ref (ad 7)) hM.1 rfl rfl in_X1 (by decide) q1668 rfl 11 rfl dX1_isTrial_8 ?_
  refine g_iconst (v := 1) (by decide) 12 rfl dX1_isTrial_11 ?_
  refine g_iload_n rfl ld_2 13 rfl dX1_isTrial_12 ?_
  refine gm_astU (j := 1) 7 (by decide) (by decide) hM (show (1 : Int32) = nI 1 from rfl) (by simp only [msz]; omega) 14 rfl dX1_isTrial_13 (fun σ hM => ?_)
  refine g_aload_n rfl ld_0 15 rfl dX1_isTrial_14 ?_
  refine g_getf (kf := 7) (v := .ref (ad 7)) hM.1 rfl rfl in_X1 (by decide) q1668 rfl 18 rfl dX1_isTrial_15 ?_
  refine g_iconst (v := 2) (by decide) 19 rfl dX1_isTrial_18 ?_
  refine g_iload_n rfl ld_3 20 rfl dX1_isTrial_19 ?_
  refine gm_astU (j := 2) 7 (by decide) (by decide) hM (show (2 : Int32) = nI 2 from rfl) (by simp only [msz]; omega) 21 rfl dX1_isTrial_20 (fun σ hM => ?_)
  refine g_aload_n rfl ld_0 22 rfl dX1_isTrial_21 ?_
  refine g_getf (kf := 7) (v := .ref (ad 7)) hM.1 rfl rfl in_X1 (by decide) q1668 rfl 25 rfl dX1_isTrial_22 ?_
  refine g_iconst (v := 3) (by decide) 26 rfl dX1_isTrial_25 ?_
  refine g_iload ld_4 28 rfl dX1_isTrial_26 ?_
  refine gm_astU (j := 3) 7 (by decide) (by decide) hM (show (3 : Int32) = nI 3 from rfl) (by simp only [msz]; omega) 29 rfl dX1_isTrial_28 (fun σ hM => ?_)
  refine g_aload_n rfl ld_0 30 rfl dX1_isTrial_29 ?_
  refine g_getf (kf := 7) (v := .ref (ad 7)) hM.1 rfl rfl in_X1 (by decide) q1668 rfl 33 rfl dX1_isTrial_30 ?_
  refine g_iconst (v := 4) (by decide) 34 rfl dX1_isTrial_33 ?_
  refine g_iload ld_5 36 rfl dX1_isTrial_34 ?_
  refine gm_astU (j := 4) 7 (by decide) (by decide) hM (show (4 : Int32) = nI 4 from rfl) (by simp only [msz]; omega) 37 rfl dX1_isTrial_36 (fun σ hM => ?_)
  refine g_aload_n rfl ld_0 38 rfl dX1_isTrial_37 ?_
  refine g_getf (kf := 7) (v := .ref (ad 7)) hM.1 rfl rfl in_X1 (by decide) q1668 rfl 41 rfl dX1_isTrial_38 ?_
  refine g_iconst (v := 5) (by decide) 42 rfl dX1_isTrial_41 ?_
  refine g_iload ld_6 44 rfl dX1_isTrial_42 ?_
  refine gm_astU (j := 5) 7 (by decide) (by decide) hM (show (5 : Int32) = nI 5 from rfl) (by simp only [msz]; omega) 45 rfl dX1_isTrial_44 (fun σ hM => ?_)
  refine g_iconst (v := 1) (by decide) 46 rfl dX1_isTrial_45 ?_
  refine g_istore sa_7 48 rfl dX1_isTrial_46 ?_
  refine g_iconst (v := 0) (by decide) 49 rfl dX1_isTrial_48 ?_
  refine g_istore sa_8 51 rfl dX1_isTrial_49 ?_
  have hM : MW D h ad σ0 F (uA A 7 (tr6 (A 7) a0 a1 a2 a3 a4 a5)) σ := by
    have e2 : uA A 7 (tr6 (A 7) a0 a1 a2 a3 a4 a5) = uA A 7 (upd (upd (upd (upd (upd (upd (A 7) 0 a0) 1 a1) 2 a2) 3 a3) 4 a4) 5 a5) := by rfl
    rw [e2]; exact hM
  have lp51 : ∀ (fu i : Nat) (x4 : Int32), i ≤ 3 → 3 + 1 ≤ i + fu → (x4 = bI (al (okR (tr6 (A 7) a0 a1 a2 a3 a4 a5)) i)) → G z cX1_isTrial RX1 9 rX1_isTrial D b σ 0 0 51 [some (.ref h), some (.int a0), some (.int a1), some (.int a2), some (.int a3), some (.int a4), some (.int a5), some (.int x4), some (.int (nI i))] [] := by
    intro fu
    induction fu with
    | zero => intros; omega
    | succ fu ih51 =>
      intro i x4 hi hf hx
      refine g_iload ld_8 53 rfl dX1_isTrial_51 ?_
      refine g_iconst (v := 3) (by decide) 54 rfl dX1_isTrial_53 ?_
      refine g_icmp_geN (a := i) (c := 3) rfl (show (3 : Int32) = nI 3 from rfl) (by omega) (by omega) 116 57 rfl (by decide) dX1_isTrial_54 (fun c54 => ?_) (fun c54 => ?_)
      · refine g_iload ld_7 118 rfl dX1_isTrial_116 ?_
        obtain rfl : i = 3 := by omega
        subst hx
        exact g_iret hR (nz_b _) (Nat.le_of_ble_eq_true rfl) (Nat.le_of_ble_eq_true rfl) ⟨_, rfl, rfl, hM⟩ dX1_isTrial_118
      · refine g_iload ld_7 59 rfl dX1_isTrial_57 ?_
        refine g_aload_n rfl ld_0 60 rfl dX1_isTrial_59 ?_
        refine g_getf (kf := 7) (v := .ref (ad 7)) hM.1 rfl rfl in_X1 (by decide) q1668 rfl 63 rfl dX1_isTrial_60 ?_
        refine g_iload ld_8 65 rfl dX1_isTrial_63 ?_
        refine g_iald (j := i) (f := tr6 (A 7) a0 a1 a2 a3 a4 a5) hM.a7 rfl (by omega) (by decide) 66 rfl dX1_isTrial_65 ?_
        refine g_if_lt 106 69 rfl (by decide) dX1_isTrial_66 (fun c66 => ?_) (fun c66 => ?_)
        · refine g_iconst (v := 0) (by decide) 107 rfl dX1_isTrial_106 ?_
          refine g_iand 108 rfl dX1_isTrial_107 ?_
          refine g_istore sa_7 110 rfl dX1_isTrial_108 ?_
          refine g_iinc (v := nI (i + 1)) ld_8 (nI_1 _) sa_8 113 rfl dX1_isTrial_110 ?_
          refine g_goto 51 (by decide) dX1_isTrial_113 ?_
          exact ih51 (i + 1) (x4 &&& ((0 : Int32))) (by omega) (by omega) (by rw [hx, zero_b, bI_and, al]; simp [okR, *])
        · refine g_aload_n rfl ld_0 70 rfl dX1_isTrial_69 ?_
          refine g_getf (kf := 7) (v := .ref (ad 7)) hM.1 rfl rfl in_X1 (by decide) q1668 rfl 73 rfl dX1_isTrial_70 ?_
          refine g_iload ld_8 75 rfl dX1_isTrial_73 ?_
          refine g_iald (j := i) (f := tr6 (A 7) a0 a1 a2 a3 a4 a5) hM.a7 rfl (by omega) (by decide) 76 rfl dX1_isTrial_75 ?_
          refine g_aload_n rfl ld_0 77 rfl dX1_isTrial_76 ?_
          refine g_getf (kf := 7) (v := .ref (ad 7)) hM.1 rfl rfl in_X1 (by decide) q1668 rfl 80 rfl dX1_isTrial_77 ?_
          refine g_iload ld_8 82 rfl dX1_isTrial_80 ?_
          refine g_iconst (v := 3) (by decide) 83 rfl dX1_isTrial_82 ?_
          refine g_iaddN (a := i) (c := 3) rfl (show (3 : Int32) = nI 3 from rfl) 84 rfl dX1_isTrial_83 ?_
          refine g_iald (j := (i + 3)) (f := tr6 (A 7) a0 a1 a2 a3 a4 a5) hM.a7 rfl (by omega) (by decide) 85 rfl dX1_isTrial_84 ?_
          refine g_icmp_ge 106 88 rfl (by decide) dX1_isTrial_85 (fun c85 => ?_) (fun c85 => ?_)
          · refine g_iconst (v := 0) (by decide) 107 rfl dX1_isTrial_106 ?_
            refine g_iand 108 rfl dX1_isTrial_107 ?_
            refine g_istore sa_7 110 rfl dX1_isTrial_108 ?_
            refine g_iinc (v := nI (i + 1)) ld_8 (nI_1 _) sa_8 113 rfl dX1_isTrial_110 ?_
            refine g_goto 51 (by decide) dX1_isTrial_113 ?_
            exact ih51 (i + 1) (x4 &&& ((0 : Int32))) (by omega) (by omega) (by rw [hx, zero_b, bI_and, al]; simp [okR, *])
          · refine g_aload_n rfl ld_0 89 rfl dX1_isTrial_88 ?_
            refine g_getf (kf := 7) (v := .ref (ad 7)) hM.1 rfl rfl in_X1 (by decide) q1668 rfl 92 rfl dX1_isTrial_89 ?_
            refine g_iload ld_8 94 rfl dX1_isTrial_92 ?_
            refine g_iconst (v := 3) (by decide) 95 rfl dX1_isTrial_94 ?_
            refine g_iaddN (a := i) (c := 3) rfl (show (3 : Int32) = nI 3 from rfl) 96 rfl dX1_isTrial_95 ?_
            refine g_iald (j := (i + 3)) (f := tr6 (A 7) a0 a1 a2 a3 a4 a5) hM.a7 rfl (by omega) (by decide) 97 rfl dX1_isTrial_96 ?_
            refine g_bipush (v := 32) (by decide) 99 rfl dX1_isTrial_97 ?_
            refine g_icmp_gt 106 102 rfl (by decide) dX1_isTrial_99 (fun c99 => ?_) (fun c99 => ?_)
            · refine g_iconst (v := 0) (by decide) 107 rfl dX1_isTrial_106 ?_
              refine g_iand 108 rfl dX1_isTrial_107 ?_
              refine g_istore sa_7 110 rfl dX1_isTrial_108 ?_
              refine g_iinc (v := nI (i + 1)) ld_8 (nI_1 _) sa_8 113 rfl dX1_isTrial_110 ?_
              refine g_goto 51 (by decide) dX1_isTrial_113 ?_
              exact ih51 (i + 1) (x4 &&& ((0 : Int32))) (by omega) (by omega) (by rw [hx, zero_b, bI_and, al]; simp [okR, *])
            · refine g_iconst (v := 1) (by decide) 103 rfl dX1_isTrial_102 ?_
              refine g_goto 107 (by decide) dX1_isTrial_103 ?_
              refine g_iand 108 rfl dX1_isTrial_107 ?_
              refine g_istore sa_7 110 rfl dX1_isTrial_108 ?_
              refine g_iinc (v := nI (i + 1)) ld_8 (nI_1 _) sa_8 113 rfl dX1_isTrial_110 ?_
              refine g_goto 51 (by decide) dX1_isTrial_113 ?_
              exact ih51 (i + 1) (x4 &&& ((1 : Int32))) (by omega) (by omega) (by rw [hx, one_b, bI_and, al]; simp [okR, *])
  exact lp51 (3 + 1) 0 ((1 : Int32)) (by omega) (by omega) (rfl)
theorem v_X1_isTrial (l : Launch) (D : DD) (b : Nat) {h : Nat} {ad : Nat → Nat} {σ0 : Hp} {F : Nat → Int32} {A : Nat → Nat → Int32} {σ : Hp} (hM : MW D h ad σ0 F A σ) {w7 : Nat → Int32} (hw7 : A 7 = w7) (a0 a1 a2 a3 a4 a5 : Int32) : CM l yX1_isTrial cX1_isTrial 9 (some .boolean) rX1_isTrial D b [.ref h, .int a0, .int a1, .int a2, .int a3, .int a4, .int a5] σ (PI (fun r σ' => r = bI (possR (tr6 (w7) a0 a1 a2 a3 a4 a5)) ∧ MW D h ad σ0 F (uA A 7 (tr6 (w7) a0 a1 a2 a3 a4 a5)) σ')) := by
  subst hw7
  exact c_X1_isTrial l D b hM a0 a1 a2 a3 a4 a5
def mbR (t w : Nat → Int32) (but : Int32) (i : Nat) : Bool := !decide (nI i = but) && isBx w (nI i) && meetR t 0 w (7 * i)
def metR (t w : Nat → Int32) (but : Int32) : Int32 := ff (mbR t w but) (-106) 12 0
def rX1_metByTrial : Room := { frames := 3, cells := 0, slots := 0, locals := 55 }
theorem k_X1_metByTrial : CV yX1_metByTrial cX1_metByTrial 4 (some .int) 1 := ⟨q1757, qs47, q81, q1758, by decide +kernel, by decide +kernel, by decide +kernel⟩
set_option maxHeartbeats 400000 in
theorem c_X1_metByTrial (l : Launch) (D : DD) (b : Nat) {h : Nat} {ad : Nat → Nat} {σ0 : Hp} {F : Nat → Int32} {A : Nat → Nat → Int32} {σ : Hp} (hM : MW D h ad σ0 F A σ) (but : Int32) : CM l yX1_metByTrial cX1_metByTrial 4 (some .int) rX1_metByTrial D b [.ref h, .int but] σ (PIx (metR (A 7) (A 0) but) σ) := by
  refine CM_of [some (.ref h), some (.int but), none, none] RX1 (by decide) rfl (cat_all rfl) (Nat.le_of_ble_eq_true rfl) rfl ?_
  intro z hz hR hnm
  refine g_bipush (v := -106) (by decide) 2 rfl dX1_metByTrial_0 ?_
  refine g_istore_n rfl sa_2 3 rfl dX1_metByTrial_2 ?_
  refine g_bipush (v := 11) (by decide) 5 rfl dX1_metByTrial_3 ?_
  refine g_istore_n rfl sa_3 6 rfl dX1_metByTrial_5 ?_
  have lp6 : ∀ (i : Nat) (x2 : Int32), i ≤ 12 → (x2 = ff (mbR (A 7) (A 0) but) (-106) 12 i) → G z cX1_metByTrial RX1 4 rX1_metByTrial D b σ 0 0 6 [some (.ref h), some (.int but), some (.int x2), some (.int (nI i + (-1)))] [] := by
    intro i
    induction i with
    | zero =>
      intro x2 hi hx
      rw [show nI 0 + (-1) = (-1 : Int32) from by decide]
      refine g_iload_n rfl ld_3 7 rfl dX1_metByTrial_6 ?_
      refine g_if_lt 54 10 rfl (by decide) dX1_metByTrial_7 (fun cz => ?_) (fun cz => absurd cz (by decide))
      refine g_iload_n rfl ld_2 55 rfl dX1_metByTrial_54 ?_
      exact g_iret hR rfl (Nat.le_of_ble_eq_true rfl) (Nat.le_of_ble_eq_true rfl) ⟨congrArg (fun p => some (Value.int p)) (show x2 = metR (A 7) (A 0) but from by exact hx), rfl⟩ dX1_metByTrial_55
    | succ i ih6 =>
      intro x2 hi hx
      rw [show nI (i + 1) + (-1) = nI i from pk_m1 i]
      refine g_iload_n rfl ld_3 7 rfl dX1_metByTrial_6 ?_
      refine g_if_ltN (a := i) rfl (by omega) 10 rfl 54 (by decide) dX1_metByTrial_7 ?_
      refine g_iload_n rfl ld_3 11 rfl dX1_metByTrial_10 ?_
      refine g_iload_n rfl ld_1 12 rfl dX1_metByTrial_11 ?_
      refine g_icmp_eq 46 15 rfl (by decide) dX1_metByTrial_12 (fun c12 => ?_) (fun c12 => ?_)
      · refine g_iload_n rfl ld_2 47 rfl dX1_metByTrial_46 ?_
        refine g_istore_n rfl sa_2 48 rfl dX1_metByTrial_47 ?_
        refine g_iinc (v := (nI i) + (-1)) ld_3 (ofm1 _) sa_3 51 rfl dX1_metByTrial_48 ?_
        refine g_goto 6 (by decide) dX1_metByTrial_51 ?_
        exact ih6 x2 (by omega) (hx.trans (ff_miss (by omega) (by simp [mbR, *])).symm)
      · refine g_aload_n rfl ld_0 16 rfl dX1_metByTrial_15 ?_
        refine g_iload_n rfl ld_3 17 rfl dX1_metByTrial_16 ?_
        refine g_callV (As := [.int (nI i)]) (rest := []) (ci := 1) (v_X1_isBox z.l D b hM (w0 := A 0) rfl (nI i)) k_X1_isBox q1759 hM.1 rfl rfl rfl rfl (Nat.le_of_ble_eq_true rfl) ⟨Nat.le_of_ble_eq_true rfl, Nat.le_of_ble_eq_true rfl⟩ 0 0 (Nat.le_of_ble_eq_true rfl) (Nat.le_of_ble_eq_true rfl) (Nat.le_of_ble_eq_true rfl) (Nat.le_of_ble_eq_true rfl) 20 rfl dX1_metByTrial_17 (fun v σ1 hq => ?_)
        obtain ⟨rfl, rfl⟩ := hq
        refine g_if_eqB 46 23 rfl (by decide) dX1_metByTrial_20 (fun c20 => ?_) (fun c20 => ?_)
        · refine g_iload_n rfl ld_2 47 rfl dX1_metByTrial_46 ?_
          refine g_istore_n rfl sa_2 48 rfl dX1_metByTrial_47 ?_
          refine g_iinc (v := (nI i) + (-1)) ld_3 (ofm1 _) sa_3 51 rfl dX1_metByTrial_48 ?_
          refine g_goto 6 (by decide) dX1_metByTrial_51 ?_
          exact ih6 x2 (by omega) (hx.trans (ff_miss (by omega) (by simp [mbR, *])).symm)
        · refine g_aload_n rfl ld_0 24 rfl dX1_metByTrial_23 ?_
          refine g_getf (kf := 7) (v := .ref (ad 7)) hM.1 rfl rfl in_X1 (by decide) q1668 rfl 27 rfl dX1_metByTrial_24 ?_
          refine g_iconst (v := 0) (by decide) 28 rfl dX1_metByTrial_27 ?_
          refine g_aload_n rfl ld_0 29 rfl dX1_metByTrial_28 ?_
          refine g_getf (kf := 0) (v := .ref (ad 0)) hM.1 rfl rfl in_X1 (by decide) q1661 rfl 32 rfl dX1_metByTrial_29 ?_
          refine g_bipush (v := 7) (by decide) 34 rfl dX1_metByTrial_32 ?_
          refine g_iload_n rfl ld_3 35 rfl dX1_metByTrial_34 ?_
          refine g_imulN (a := 7) (c := i) (show (7 : Int32) = nI 7 from rfl) rfl 36 rfl dX1_metByTrial_35 ?_
          refine g_callS (As := [.ref (ad 7), .int ((0 : Int32)), .ref (ad 0), .int (nI (7 * i))]) (rest := []) (c_X1_doMeet z.l D b (f := A 7) (g := A 0) hM.a7 hM.a0 0 (7 * i) (by omega) (by omega) (by omega) (by omega)) k_X1_doMeet q1766 rfl rfl (Nat.le_of_ble_eq_true rfl) ⟨Nat.le_of_ble_eq_true rfl, Nat.le_of_ble_eq_true rfl⟩ 0 0 (Nat.le_of_ble_eq_true rfl) (Nat.le_of_ble_eq_true rfl) (Nat.le_of_ble_eq_true rfl) (Nat.le_of_ble_eq_true rfl) 39 rfl dX1_metByTrial_36 (fun v σ1 hq => ?_)
          obtain ⟨rfl, rfl⟩ := hq
          refine g_if_eqB 46 42 rfl (by decide) dX1_metByTrial_39 (fun c39 => ?_) (fun c39 => ?_)
          · refine g_iload_n rfl ld_2 47 rfl dX1_metByTrial_46 ?_
            refine g_istore_n rfl sa_2 48 rfl dX1_metByTrial_47 ?_
            refine g_iinc (v := (nI i) + (-1)) ld_3 (ofm1 _) sa_3 51 rfl dX1_metByTrial_48 ?_
            refine g_goto 6 (by decide) dX1_metByTrial_51 ?_
            exact ih6 x2 (by omega) (hx.trans (ff_miss (by omega) (by simp [mbR, *])).symm)
          · refine g_iload_n rfl ld_3 43 rfl dX1_metByTrial_42 ?_
            refine g_goto 47 (by decide) dX1_metByTrial_43 ?_
            refine g_istore_n rfl sa_2 48 rfl dX1_metByTrial_47 ?_
            refine g_iinc (v := (nI i) + (-1)) ld_3 (ofm1 _) sa_3 51 rfl dX1_metByTrial_48 ?_
            refine g_goto 6 (by decide) dX1_metByTrial_51 ?_
            exact ih6 (nI i) (by omega) ((ff_hit (by omega) (by simp [mbR, *])).symm)
  have h9 : ∀ w9 : Int32, w9 = nI 12 + (-1) → G z cX1_metByTrial RX1 4 rX1_metByTrial D b σ 0 0 6 [some (.ref h), some (.int but), some (.int ((-106 : Int32))), some (.int w9)] [] := fun w9 hw9 => by
    subst hw9; exact lp6 12 ((-106 : Int32)) (by omega) ((ff_end (by omega)).symm)
  exact h9 _ (by decide)
theorem v_X1_metByTrial (l : Launch) (D : DD) (b : Nat) {h : Nat} {ad : Nat → Nat} {σ0 : Hp} {F : Nat → Int32} {A : Nat → Nat → Int32} {σ : Hp} (hM : MW D h ad σ0 F A σ) {w0 : Nat → Int32} (hw0 : A 0 = w0) {w7 : Nat → Int32} (hw7 : A 7 = w7) (but : Int32) : CM l yX1_metByTrial cX1_metByTrial 4 (some .int) rX1_metByTrial D b [.ref h, .int but] σ (PIx (metR (w7) (w0) but) σ) := by
  subst hw0
  subst hw7
  exact c_X1_metByTrial l D b hM but
def layW (w t : Nat → Int32) (j : Nat) : Nat → Int32 := upd (cpP w t (7 * j) 6) (7 * j + 6) 1
def rX1_lay : Room := { frames := 1, cells := 0, slots := 0, locals := 12 }
theorem k_X1_lay : CV yX1_lay cX1_lay 3 none 1 := ⟨q1779, qs51, q81, q1780, by decide +kernel, by decide +kernel, by decide +kernel⟩
set_option maxHeartbeats 400000 in
theorem c_X1_lay (l : Launch) (D : DD) (b : Nat) {h : Nat} {ad : Nat → Nat} {σ0 : Hp} {F : Nat → Int32} {A : Nat → Nat → Int32} {σ : Hp} (hM : MW D h ad σ0 F A σ) (j : Nat) (hj : j < 12) : CM l yX1_lay cX1_lay 3 none rX1_lay D b [.ref h, .int (nI j)] σ (PV (fun σ' => MW D h ad σ0 F (uA A 0 (layW (A 0) (A 7) j)) σ')) := by
  refine CM_of [some (.ref h), some (.int (nI j)), none] RX1 (by decide) rfl (cat_all rfl) (Nat.le_of_ble_eq_true rfl) rfl ?_
  intro z hz hR hnm
  refine g_iconst (v := 0) (by decide) 1 rfl dX1_lay_0 ?_
  refine g_istore_n rfl sa_2 2 rfl dX1_lay_1 ?_
  have lp2 : ∀ (fu i : Nat) (σ : Hp), i ≤ 6 → 6 + 1 ≤ i + fu → MW D h ad σ0 F (uA A 0 (cpP (A 0) (A 7) (7 * j) i)) σ → G z cX1_lay RX1 3 rX1_lay D b σ 0 0 2 [some (.ref h), some (.int (nI j)), some (.int (nI i))] [] := by
    intro fu
    induction fu with
    | zero => intros; omega
    | succ fu ih2 =>
      intro i σ hi hf  hM
      refine g_iload_n rfl ld_2 3 rfl dX1_lay_2 ?_
      refine g_bipush (v := 6) (by decide) 5 rfl dX1_lay_3 ?_
      refine g_icmp_geN (a := i) (c := 6) rfl (show (6 : Int32) = nI 6 from rfl) (by omega) (by omega) 31 8 rfl (by decide) dX1_lay_5 (fun c5 => ?_) (fun c5 => ?_)
      · obtain rfl : i = 6 := by omega
        refine g_aload_n rfl ld_0 32 rfl dX1_lay_31 ?_
        refine g_getf (kf := 0) (v := .ref (ad 0)) hM.1 rfl rfl in_X1 (by decide) q1661 rfl 35 rfl dX1_lay_32 ?_
        refine g_bipush (v := 7) (by decide) 37 rfl dX1_lay_35 ?_
        refine g_iload_n rfl ld_1 38 rfl dX1_lay_37 ?_
        refine g_imulN (a := 7) (c := j) (show (7 : Int32) = nI 7 from rfl) rfl 39 rfl dX1_lay_38 ?_
        refine g_bipush (v := 6) (by decide) 41 rfl dX1_lay_39 ?_
        refine g_iaddN (a := (7 * j)) (c := 6) rfl (show (6 : Int32) = nI 6 from rfl) 42 rfl dX1_lay_41 ?_
        refine g_iconst (v := 1) (by decide) 43 rfl dX1_lay_42 ?_
        refine gm_astU (j := ((7 * j) + 6)) 0 (by decide) (by decide) hM rfl (by simp only [msz]; omega) 44 rfl dX1_lay_43 (fun σ hM => ?_)
        have hM : MW D h ad σ0 F (uA A 0 (layW (A 0) (A 7) j)) σ := by
          have e2 : uA A 0 (layW (A 0) (A 7) j) = uA A 0 (upd (cpP (A 0) (A 7) (7 * j) 6) (((7 * j) + 6)) ((1 : Int32))) := by rfl
          rw [e2]; exact hM
        exact g_vret hR (Nat.le_of_ble_eq_true rfl) (Nat.le_of_ble_eq_true rfl) ⟨rfl, hM⟩ dX1_lay_44
      · refine g_aload_n rfl ld_0 9 rfl dX1_lay_8 ?_
        refine g_getf (kf := 0) (v := .ref (ad 0)) hM.1 rfl rfl in_X1 (by decide) q1661 rfl 12 rfl dX1_lay_9 ?_
        refine g_bipush (v := 7) (by decide) 14 rfl dX1_lay_12 ?_
        refine g_iload_n rfl ld_1 15 rfl dX1_lay_14 ?_
        refine g_imulN (a := 7) (c := j) (show (7 : Int32) = nI 7 from rfl) rfl 16 rfl dX1_lay_15 ?_
        refine g_iload_n rfl ld_2 17 rfl dX1_lay_16 ?_
        refine g_iaddN (a := (7 * j)) (c := i) rfl rfl 18 rfl dX1_lay_17 ?_
        refine g_aload_n rfl ld_0 19 rfl dX1_lay_18 ?_
        refine g_getf (kf := 7) (v := .ref (ad 7)) hM.1 rfl rfl in_X1 (by decide) q1668 rfl 22 rfl dX1_lay_19 ?_
        refine g_iload_n rfl ld_2 23 rfl dX1_lay_22 ?_
        refine g_iald (j := i) (f := A 7) hM.a7 rfl (by omega) (by decide) 24 rfl dX1_lay_23 ?_
        refine gm_astU (j := ((7 * j) + i)) 0 (by decide) (by decide) hM rfl (by simp only [msz]; omega) 25 rfl dX1_lay_24 (fun σ hM => ?_)
        refine g_iinc (v := nI (i + 1)) ld_2 (nI_1 _) sa_2 28 rfl dX1_lay_25 ?_
        refine g_goto 2 (by decide) dX1_lay_28 ?_
        have hM : MW D h ad σ0 F (uA A 0 (cpP (A 0) (A 7) (7 * j) ((i + 1)))) σ := by
          have e2 : uA A 0 (cpP (A 0) (A 7) (7 * j) ((i + 1))) = uA A 0 (upd (cpP (A 0) (A 7) (7 * j) i) (((7 * j) + i)) ((A 7) i)) := by rw [cpP_s]
          rw [e2]; exact hM
        exact ih2 (i + 1) σ (by omega) (by omega)  hM
  have hM : MW D h ad σ0 F (uA A 0 (cpP (A 0) (A 7) (7 * j) 0)) σ := by
    have e2 : uA A 0 (cpP (A 0) (A 7) (7 * j) 0) = A := by rw [cpP_0, uA_self]
    rw [e2]; exact hM
  exact lp2 (6 + 1) 0 σ (by omega) (by omega)  hM
theorem v_X1_lay (l : Launch) (D : DD) (b : Nat) {h : Nat} {ad : Nat → Nat} {σ0 : Hp} {F : Nat → Int32} {A : Nat → Nat → Int32} {σ : Hp} (hM : MW D h ad σ0 F A σ) {w0 : Nat → Int32} (hw0 : A 0 = w0) {w7 : Nat → Int32} (hw7 : A 7 = w7) (j : Nat) (hj : j < 12) : CM l yX1_lay cX1_lay 3 none rX1_lay D b [.ref h, .int (nI j)] σ (PV (fun σ' => MW D h ad σ0 F (uA A 0 (layW (w0) (w7) j)) σ')) := by
  subst hw0
  subst hw7
  exact c_X1_lay l D b hM j hj
def ffN (p : Nat → Bool) (n i : Nat) : Nat := if i < n then (if p i then i else ffN p n (i + 1)) else n
termination_by n - i
theorem ffN_end {p : Nat → Bool} {n i : Nat} (h : n ≤ i) : ffN p n i = n := by rw [ffN, if_neg (by omega)]
theorem ffN_hit {p : Nat → Bool} {n i : Nat} (h : i < n) (hp : p i = true) : ffN p n i = i := by rw [ffN, if_pos h, if_pos hp]
theorem ffN_miss {p : Nat → Bool} {n i : Nat} (h : i < n) (hp : p i = false) : ffN p n i = ffN p n (i + 1) := by rw [ffN, if_pos h, hp]; rfl
theorem ffN_le (p : Nat → Bool) (n i : Nat) (h : i ≤ n) : ffN p n i ≤ n := by
  rw [ffN]
  split
  · split
    · omega
    · exact ffN_le p n (i + 1) (by omega)
  · exact Nat.le_refl n
termination_by n - i
def lowR (w : Nat → Int32) : Nat := ffN (fun i => !isBx w (nI i)) 12 0
def rX1_lowestFree : Room := { frames := 3, cells := 0, slots := 0, locals := 55 }
theorem k_X1_lowestFree : CV yX1_lowestFree cX1_lowestFree 2 (some .int) 0 := ⟨q1771, qs49, q81, q1772, by decide +kernel, by decide +kernel, by decide +kernel⟩
set_option maxHeartbeats 400000 in
theorem c_X1_lowestFree (l : Launch) (D : DD) (b : Nat) {h : Nat} {ad : Nat → Nat} {σ0 : Hp} {F : Nat → Int32} {A : Nat → Nat → Int32} {σ : Hp} (hM : MW D h ad σ0 F A σ) : CM l yX1_lowestFree cX1_lowestFree 2 (some .int) rX1_lowestFree D b [.ref h] σ (PIx (nI (lowR (A 0))) σ) := by
  refine CM_of [some (.ref h), none] RX1 (by decide) rfl (cat_all rfl) (Nat.le_of_ble_eq_true rfl) rfl ?_
  intro z hz hR hnm
  refine g_iconst (v := 0) (by decide) 1 rfl dX1_lowestFree_0 ?_
  refine g_istore_n rfl sa_1 2 rfl dX1_lowestFree_1 ?_
  have lp2 : ∀ (fu i : Nat), i ≤ 12 → 12 + 1 ≤ i + fu → (lowR (A 0) = ffN (fun i => !isBx (A 0) (nI i)) 12 i) → G z cX1_lowestFree RX1 2 rX1_lowestFree D b σ 0 0 2 [some (.ref h), some (.int (nI i))] [] := by
    intro fu
    induction fu with
    | zero => intros; omega
    | succ fu ih2 =>
      intro i  hi hf hx
      refine g_iload_n rfl ld_1 3 rfl dX1_lowestFree_2 ?_
      refine g_bipush (v := 12) (by decide) 5 rfl dX1_lowestFree_3 ?_
      refine g_icmp_geN (a := i) (c := 12) rfl (show (12 : Int32) = nI 12 from rfl) (by omega) (by omega) 22 8 rfl (by decide) dX1_lowestFree_5 (fun c5 => ?_) (fun c5 => ?_)
      · refine g_iload_n rfl ld_1 23 rfl dX1_lowestFree_22 ?_
        have e9 : nI i = nI (lowR (A 0)) := by
          rw [hx]
          by_cases hz : i < 12
          · first | exact absurd hz (by omega) | rw [ffN_hit hz (by simp [*])]
          · rw [ffN_end (by omega)]; congr 1; omega
        exact g_iret hR rfl (Nat.le_of_ble_eq_true rfl) (Nat.le_of_ble_eq_true rfl) ⟨congrArg (fun p => some (Value.int p)) e9, rfl⟩ dX1_lowestFree_23
      · refine g_aload_n rfl ld_0 9 rfl dX1_lowestFree_8 ?_
        refine g_iload_n rfl ld_1 10 rfl dX1_lowestFree_9 ?_
        refine g_callV (As := [.int (nI i)]) (rest := []) (ci := 1) (v_X1_isBox z.l D b hM (w0 := A 0) rfl (nI i)) k_X1_isBox q1759 hM.1 rfl rfl rfl rfl (Nat.le_of_ble_eq_true rfl) ⟨Nat.le_of_ble_eq_true rfl, Nat.le_of_ble_eq_true rfl⟩ 0 0 (Nat.le_of_ble_eq_true rfl) (Nat.le_of_ble_eq_true rfl) (Nat.le_of_ble_eq_true rfl) (Nat.le_of_ble_eq_true rfl) 13 rfl dX1_lowestFree_10 (fun v σ1 hq => ?_)
        obtain ⟨rfl, rfl⟩ := hq
        refine g_if_eqB 22 16 rfl (by decide) dX1_lowestFree_13 (fun c13 => ?_) (fun c13 => ?_)
        · refine g_iload_n rfl ld_1 23 rfl dX1_lowestFree_22 ?_
          have e9 : nI i = nI (lowR (A 0)) := by
            rw [hx]
            by_cases hz : i < 12
            · first | exact absurd hz (by omega) | rw [ffN_hit hz (by simp [*])]
            · rw [ffN_end (by omega)]; congr 1; omega
          exact g_iret hR rfl (Nat.le_of_ble_eq_true rfl) (Nat.le_of_ble_eq_true rfl) ⟨congrArg (fun p => some (Value.int p)) e9, rfl⟩ dX1_lowestFree_23
        · refine g_iinc (v := nI (i + 1)) ld_1 (nI_1 _) sa_1 19 rfl dX1_lowestFree_16 ?_
          refine g_goto 2 (by decide) dX1_lowestFree_19 ?_
          exact ih2 (i + 1) (by omega) (by omega) (by rw [hx, ffN_miss (by omega) (by simp [*])])
  exact lp2 (12 + 1) 0 (by omega) (by omega) (rfl)
theorem v_X1_lowestFree (l : Launch) (D : DD) (b : Nat) {h : Nat} {ad : Nat → Nat} {σ0 : Hp} {F : Nat → Int32} {A : Nat → Nat → Int32} {σ : Hp} (hM : MW D h ad σ0 F A σ) {w0 : Nat → Int32} (hw0 : A 0 = w0) : CM l yX1_lowestFree cX1_lowestFree 2 (some .int) rX1_lowestFree D b [.ref h] σ (PIx (nI (lowR (w0))) σ) := by
  subst hw0
  exact c_X1_lowestFree l D b hM 
def sm (f : Nat → Int32) : Nat → Int32
  | 0 => 0
  | n + 1 => sm f n + f n
def manyR (w : Nat → Int32) : Int32 := sm (fun i => w (7 * i + 6)) 12
def rX1_boxes : Room := { frames := 1, cells := 0, slots := 0, locals := 12 }
theorem k_X1_boxes : CV yX1_boxes cX1_boxes 3 (some .int) 0 := ⟨q1786, q1787, q81, q1788, by decide +kernel, by decide +kernel, by decide +kernel⟩
set_option maxHeartbeats 400000 in
theorem c_X1_boxes (l : Launch) (D : DD) (b : Nat) {h : Nat} {ad : Nat → Nat} {σ0 : Hp} {F : Nat → Int32} {A : Nat → Nat → Int32} {σ : Hp} (hM : MW D h ad σ0 F A σ) : CM l yX1_boxes cX1_boxes 3 (some .int) rX1_boxes D b [.ref h] σ (PIx (manyR (A 0)) σ) := by
  refine CM_of [some (.ref h), none, none] RX1 (by decide) rfl (cat_all rfl) (Nat.le_of_ble_eq_true rfl) rfl ?_
  intro z hz hR hnm
  refine g_iconst (v := 0) (by decide) 1 rfl dX1_boxes_0 ?_
  refine g_istore_n rfl sa_1 2 rfl dX1_boxes_1 ?_
  refine g_iconst (v := 0) (by decide) 3 rfl dX1_boxes_2 ?_
  refine g_istore_n rfl sa_2 4 rfl dX1_boxes_3 ?_
  have lp4 : ∀ (fu i : Nat) (x1 : Int32), i ≤ 12 → 12 + 1 ≤ i + fu → (x1 = sm (fun i => A 0 (7 * i + 6)) i) → G z cX1_boxes RX1 3 rX1_boxes D b σ 0 0 4 [some (.ref h), some (.int x1), some (.int (nI i))] [] := by
    intro fu
    induction fu with
    | zero => intros; omega
    | succ fu ih4 =>
      intro i x1 hi hf hx
      refine g_iload_n rfl ld_2 5 rfl dX1_boxes_4 ?_
      refine g_bipush (v := 12) (by decide) 7 rfl dX1_boxes_5 ?_
      refine g_icmp_geN (a := i) (c := 12) rfl (show (12 : Int32) = nI 12 from rfl) (by omega) (by omega) 31 10 rfl (by decide) dX1_boxes_7 (fun c7 => ?_) (fun c7 => ?_)
      · refine g_iload_n rfl ld_1 32 rfl dX1_boxes_31 ?_
        exact g_iret hR rfl (Nat.le_of_ble_eq_true rfl) (Nat.le_of_ble_eq_true rfl) ⟨congrArg (fun p => some (Value.int p)) (show x1 = manyR (A 0) from by obtain rfl : i = 12 := (by omega); exact hx), rfl⟩ dX1_boxes_32
      · refine g_iload_n rfl ld_1 11 rfl dX1_boxes_10 ?_
        refine g_aload_n rfl ld_0 12 rfl dX1_boxes_11 ?_
        refine g_getf (kf := 0) (v := .ref (ad 0)) hM.1 rfl rfl in_X1 (by decide) q1661 rfl 15 rfl dX1_boxes_12 ?_
        refine g_bipush (v := 7) (by decide) 17 rfl dX1_boxes_15 ?_
        refine g_iload_n rfl ld_2 18 rfl dX1_boxes_17 ?_
        refine g_imulN (a := 7) (c := i) (show (7 : Int32) = nI 7 from rfl) rfl 19 rfl dX1_boxes_18 ?_
        refine g_bipush (v := 6) (by decide) 21 rfl dX1_boxes_19 ?_
        refine g_iaddN (a := (7 * i)) (c := 6) rfl (show (6 : Int32) = nI 6 from rfl) 22 rfl dX1_boxes_21 ?_
        refine g_iald (j := ((7 * i) + 6)) (f := A 0) hM.a0 rfl (by omega) (by decide) 23 rfl dX1_boxes_22 ?_
        refine g_iadd 24 rfl dX1_boxes_23 ?_
        refine g_istore_n rfl sa_1 25 rfl dX1_boxes_24 ?_
        refine g_iinc (v := nI (i + 1)) ld_2 (nI_1 _) sa_2 28 rfl dX1_boxes_25 ?_
        refine g_goto 4 (by decide) dX1_boxes_28 ?_
        exact ih4 (i + 1) (x1 + ((A 0) (((7 * i) + 6)))) (by omega) (by omega) (by rw [hx, sm])
  exact lp4 (12 + 1) 0 ((0 : Int32)) (by omega) (by omega) (rfl)
theorem v_X1_boxes (l : Launch) (D : DD) (b : Nat) {h : Nat} {ad : Nat → Nat} {σ0 : Hp} {F : Nat → Int32} {A : Nat → Nat → Int32} {σ : Hp} (hM : MW D h ad σ0 F A σ) {w0 : Nat → Int32} (hw0 : A 0 = w0) : CM l yX1_boxes cX1_boxes 3 (some .int) rX1_boxes D b [.ref h] σ (PIx (manyR (w0)) σ) := by
  subst hw0
  exact c_X1_boxes l D b hM 
