/-! THE COMPONENT, part 1: a box, its questions -/
set_option maxRecDepth 100000
def BxA (D : DD) (σ : Hp) (q lo hi : Nat) (n : Int32) (f g : Nat → Int32) : Prop := σ q = some (.inr (2, [.int n, .ref lo, .ref hi])) ∧ σ lo = some (oI D 3 f) ∧ σ hi = some (oI D 3 g)
def onR (f g f' g' : Nat → Int32) (x : Nat) : Bool := decide (f x < g' x) && decide (f' x < g x)
def mtB (f g f' g' : Nat → Int32) : Bool := onR f g f' g' 0 && onR f g f' g' 1 && onR f g f' g' 2
def acR (f g f' g' : Nat → Int32) (x y : Nat) : Bool := decide (f x - g y < g' x - f' y) && decide (f' x - g' y < g x - f y)
def piB (f g f' g' : Nat → Int32) : Bool := acR f g f' g' 0 1 && acR f g f' g' 1 2 && acR f g f' g' 2 0
def bhB (f g f' g' : Nat → Int32) : Bool := piB f g f' g' && (!decide (f' 0 < g 0) || !decide (f' 1 < g 1) || !decide (f' 2 < g 2))
def ctB (f g : Nat → Int32) (x : Nat) (a : Int32) : Bool := decide (f x < a) && decide (a < g x)
def crB (f g : Nat → Int32) (x : Nat) : Int32 := if x < 3 then f x else g (x - 3)
def okB (f g : Nat → Int32) (x : Nat) : Bool := !decide (f x < 0) && !decide (32 < g x) && decide (f x < g x)
def rX2_overlapsOn : Room := { frames := 1, cells := 0, slots := 0, locals := 12 }
theorem k_X2_overlapsOn : CV yX2_overlapsOn cX2_overlapsOn 3 (some .boolean) 2 := ⟨q285, qs2, q82, q286, by decide +kernel, by decide +kernel, by decide +kernel⟩
set_option maxHeartbeats 400000 in
theorem c_X2_overlapsOn (l : Launch) (D : DD) (b : Nat) {σ : Hp} {q lo hi : Nat} {n : Int32} {f g : Nat → Int32} (hB : BxA D σ q lo hi n f g) {q' lo' hi' : Nat} {n' : Int32} {f' g' : Nat → Int32} (hB' : BxA D σ q' lo' hi' n' f' g') (x : Nat) (hx : x < 3) : CM l yX2_overlapsOn cX2_overlapsOn 3 (some .boolean) rX2_overlapsOn D b [.ref q, .ref q', .int (nI x)] σ (PIx (bI (onR f g f' g' x)) σ) := by
  refine CM_of [some (.ref q), some (.ref q'), some (.int (nI x))] RX2 (by decide) rfl (cat_all rfl) (Nat.le_of_ble_eq_true rfl) rfl ?_
  intro z hz hR hnm
  refine g_aload_n rfl ld_0 1 rfl dX2_overlapsOn_0 ?_
  refine g_getf (kf := 1) hB.1 rfl rfl in_X2 (by decide) q256 rfl 4 rfl dX2_overlapsOn_1 ?_
  refine g_iload_n rfl ld_2 5 rfl dX2_overlapsOn_4 ?_
  refine g_iald (j := x) (f := f) hB.2.1 rfl (by omega) (by decide) 6 rfl dX2_overlapsOn_5 ?_
  refine g_aload_n rfl ld_1 7 rfl dX2_overlapsOn_6 ?_
  refine g_getf (kf := 2) hB'.1 rfl rfl in_X2 (by decide) q258 rfl 10 rfl dX2_overlapsOn_7 ?_
  refine g_iload_n rfl ld_2 11 rfl dX2_overlapsOn_10 ?_
  refine g_iald (j := x) (f := g') hB'.2.2 rfl (by omega) (by decide) 12 rfl dX2_overlapsOn_11 ?_
  refine g_icmp_ge 34 15 rfl (by decide) dX2_overlapsOn_12 (fun c12 => ?_) (fun c12 => ?_)
  · refine g_iconst (v := 0) (by decide) 35 rfl dX2_overlapsOn_34 ?_
    exact g_iret hR nz_0 (Nat.le_of_ble_eq_true rfl) (Nat.le_of_ble_eq_true rfl) ⟨congrArg (fun p => some (Value.int (bI p))) (show false = onR f g f' g' x from by simp [onR, *]), rfl⟩ dX2_overlapsOn_35
  · refine g_aload_n rfl ld_1 16 rfl dX2_overlapsOn_15 ?_
    refine g_getf (kf := 1) hB'.1 rfl rfl in_X2 (by decide) q256 rfl 19 rfl dX2_overlapsOn_16 ?_
    refine g_iload_n rfl ld_2 20 rfl dX2_overlapsOn_19 ?_
    refine g_iald (j := x) (f := f') hB'.2.1 rfl (by omega) (by decide) 21 rfl dX2_overlapsOn_20 ?_
    refine g_aload_n rfl ld_0 22 rfl dX2_overlapsOn_21 ?_
    refine g_getf (kf := 2) hB.1 rfl rfl in_X2 (by decide) q258 rfl 25 rfl dX2_overlapsOn_22 ?_
    refine g_iload_n rfl ld_2 26 rfl dX2_overlapsOn_25 ?_
    refine g_iald (j := x) (f := g) hB.2.2 rfl (by omega) (by decide) 27 rfl dX2_overlapsOn_26 ?_
    refine g_icmp_ge 34 30 rfl (by decide) dX2_overlapsOn_27 (fun c27 => ?_) (fun c27 => ?_)
    · refine g_iconst (v := 0) (by decide) 35 rfl dX2_overlapsOn_34 ?_
      exact g_iret hR nz_0 (Nat.le_of_ble_eq_true rfl) (Nat.le_of_ble_eq_true rfl) ⟨congrArg (fun p => some (Value.int (bI p))) (show false = onR f g f' g' x from by simp [onR, *]), rfl⟩ dX2_overlapsOn_35
    · refine g_iconst (v := 1) (by decide) 31 rfl dX2_overlapsOn_30 ?_
      refine g_goto 35 (by decide) dX2_overlapsOn_31 ?_
      exact g_iret hR nz_1 (Nat.le_of_ble_eq_true rfl) (Nat.le_of_ble_eq_true rfl) ⟨congrArg (fun p => some (Value.int (bI p))) (show true = onR f g f' g' x from by simp [onR, *]), rfl⟩ dX2_overlapsOn_35
def rX2_meets : Room := { frames := 2, cells := 0, slots := 0, locals := 34 }
theorem k_X2_meets : CV yX2_meets cX2_meets 2 (some .boolean) 1 := ⟨q280, q281, q82, q282, by decide +kernel, by decide +kernel, by decide +kernel⟩
set_option maxHeartbeats 400000 in
theorem c_X2_meets (l : Launch) (D : DD) (b : Nat) {σ : Hp} {q lo hi : Nat} {n : Int32} {f g : Nat → Int32} (hB : BxA D σ q lo hi n f g) {q' lo' hi' : Nat} {n' : Int32} {f' g' : Nat → Int32} (hB' : BxA D σ q' lo' hi' n' f' g') : CM l yX2_meets cX2_meets 2 (some .boolean) rX2_meets D b [.ref q, .ref q'] σ (PIx (bI (mtB f g f' g')) σ) := by
  refine CM_of [some (.ref q), some (.ref q')] RX2 (by decide) rfl (cat_all rfl) (Nat.le_of_ble_eq_true rfl) rfl ?_
  intro z hz hR hnm
  refine g_aload_n rfl ld_0 1 rfl dX2_meets_0 ?_
  refine g_aload_n rfl ld_1 2 rfl dX2_meets_1 ?_
  refine g_iconst (v := 0) (by decide) 3 rfl dX2_meets_2 ?_
  refine g_callV (As := [.ref q', .int ((0 : Int32))]) (rest := []) (ci := 2) (c_X2_overlapsOn z.l D b hB hB' 0 (by omega)) k_X2_overlapsOn q283 hB.1 rfl rfl rfl rfl (Nat.le_of_ble_eq_true rfl) ⟨Nat.le_of_ble_eq_true rfl, Nat.le_of_ble_eq_true rfl⟩ 0 0 (Nat.le_of_ble_eq_true rfl) (Nat.le_of_ble_eq_true rfl) (Nat.le_of_ble_eq_true rfl) (Nat.le_of_ble_eq_true rfl) 6 rfl dX2_meets_3 (fun v σ1 hq => ?_)
  obtain ⟨rfl, rfl⟩ := hq
  refine g_if_eqB 31 9 rfl (by decide) dX2_meets_6 (fun c6 => ?_) (fun c6 => ?_)
  · refine g_iconst (v := 0) (by decide) 32 rfl dX2_meets_31 ?_
    exact g_iret hR nz_0 (Nat.le_of_ble_eq_true rfl) (Nat.le_of_ble_eq_true rfl) ⟨congrArg (fun p => some (Value.int (bI p))) (show false = mtB f g f' g' from by simp [mtB, *]), rfl⟩ dX2_meets_32
  · refine g_aload_n rfl ld_0 10 rfl dX2_meets_9 ?_
    refine g_aload_n rfl ld_1 11 rfl dX2_meets_10 ?_
    refine g_iconst (v := 1) (by decide) 12 rfl dX2_meets_11 ?_
    refine g_callV (As := [.ref q', .int ((1 : Int32))]) (rest := []) (ci := 2) (c_X2_overlapsOn z.l D b hB hB' 1 (by omega)) k_X2_overlapsOn q283 hB.1 rfl rfl rfl rfl (Nat.le_of_ble_eq_true rfl) ⟨Nat.le_of_ble_eq_true rfl, Nat.le_of_ble_eq_true rfl⟩ 0 0 (Nat.le_of_ble_eq_true rfl) (Nat.le_of_ble_eq_true rfl) (Nat.le_of_ble_eq_true rfl) (Nat.le_of_ble_eq_true rfl) 15 rfl dX2_meets_12 (fun v σ1 hq => ?_)
    obtain ⟨rfl, rfl⟩ := hq
    refine g_if_eqB 31 18 rfl (by decide) dX2_meets_15 (fun c15 => ?_) (fun c15 => ?_)
    · refine g_iconst (v := 0) (by decide) 32 rfl dX2_meets_31 ?_
      exact g_iret hR nz_0 (Nat.le_of_ble_eq_true rfl) (Nat.le_of_ble_eq_true rfl) ⟨congrArg (fun p => some (Value.int (bI p))) (show false = mtB f g f' g' from by simp [mtB, *]), rfl⟩ dX2_meets_32
    · refine g_aload_n rfl ld_0 19 rfl dX2_meets_18 ?_
      refine g_aload_n rfl ld_1 20 rfl dX2_meets_19 ?_
      refine g_iconst (v := 2) (by decide) 21 rfl dX2_meets_20 ?_
      refine g_callV (As := [.ref q', .int ((2 : Int32))]) (rest := []) (ci := 2) (c_X2_overlapsOn z.l D b hB hB' 2 (by omega)) k_X2_overlapsOn q283 hB.1 rfl rfl rfl rfl (Nat.le_of_ble_eq_true rfl) ⟨Nat.le_of_ble_eq_true rfl, Nat.le_of_ble_eq_true rfl⟩ 0 0 (Nat.le_of_ble_eq_true rfl) (Nat.le_of_ble_eq_true rfl) (Nat.le_of_ble_eq_true rfl) (Nat.le_of_ble_eq_true rfl) 24 rfl dX2_meets_21 (fun v σ1 hq => ?_)
      obtain ⟨rfl, rfl⟩ := hq
      refine g_if_eqB 31 27 rfl (by decide) dX2_meets_24 (fun c24 => ?_) (fun c24 => ?_)
      · refine g_iconst (v := 0) (by decide) 32 rfl dX2_meets_31 ?_
        exact g_iret hR nz_0 (Nat.le_of_ble_eq_true rfl) (Nat.le_of_ble_eq_true rfl) ⟨congrArg (fun p => some (Value.int (bI p))) (show false = mtB f g f' g' from by simp [mtB, *]), rfl⟩ dX2_meets_32
      · refine g_iconst (v := 1) (by decide) 28 rfl dX2_meets_27 ?_
        refine g_goto 32 (by decide) dX2_meets_28 ?_
        exact g_iret hR nz_1 (Nat.le_of_ble_eq_true rfl) (Nat.le_of_ble_eq_true rfl) ⟨congrArg (fun p => some (Value.int (bI p))) (show true = mtB f g f' g' from by simp [mtB, *]), rfl⟩ dX2_meets_32
def rX2_overlapsAcross : Room := { frames := 1, cells := 0, slots := 0, locals := 12 }
theorem k_X2_overlapsAcross : CV yX2_overlapsAcross cX2_overlapsAcross 4 (some .boolean) 3 := ⟨q365, qs9, q82, q366, by decide +kernel, by decide +kernel, by decide +kernel⟩
set_option maxHeartbeats 400000 in
theorem c_X2_overlapsAcross (l : Launch) (D : DD) (b : Nat) {σ : Hp} {q lo hi : Nat} {n : Int32} {f g : Nat → Int32} (hB : BxA D σ q lo hi n f g) {q' lo' hi' : Nat} {n' : Int32} {f' g' : Nat → Int32} (hB' : BxA D σ q' lo' hi' n' f' g') (x y : Nat) (hx : x < 3) (hy : y < 3) : CM l yX2_overlapsAcross cX2_overlapsAcross 4 (some .boolean) rX2_overlapsAcross D b [.ref q, .ref q', .int (nI x), .int (nI y)] σ (PIx (bI (acR f g f' g' x y)) σ) := by
  refine CM_of [some (.ref q), some (.ref q'), some (.int (nI x)), some (.int (nI y))] RX2 (by decide) rfl (cat_all rfl) (Nat.le_of_ble_eq_true rfl) rfl ?_
  intro z hz hR hnm
  refine g_aload_n rfl ld_0 1 rfl dX2_overlapsAcross_0 ?_
  refine g_getf (kf := 1) hB.1 rfl rfl in_X2 (by decide) q256 rfl 4 rfl dX2_overlapsAcross_1 ?_
  refine g_iload_n rfl ld_2 5 rfl dX2_overlapsAcross_4 ?_
  refine g_iald (j := x) (f := f) hB.2.1 rfl (by omega) (by decide) 6 rfl dX2_overlapsAcross_5 ?_
  refine g_aload_n rfl ld_0 7 rfl dX2_overlapsAcross_6 ?_
  refine g_getf (kf := 2) hB.1 rfl rfl in_X2 (by decide) q258 rfl 10 rfl dX2_overlapsAcross_7 ?_
  refine g_iload_n rfl ld_3 11 rfl dX2_overlapsAcross_10 ?_
  refine g_iald (j := y) (f := g) hB.2.2 rfl (by omega) (by decide) 12 rfl dX2_overlapsAcross_11 ?_
  refine g_isub 13 rfl dX2_overlapsAcross_12 ?_
  refine g_aload_n rfl ld_1 14 rfl dX2_overlapsAcross_13 ?_
  refine g_getf (kf := 2) hB'.1 rfl rfl in_X2 (by decide) q258 rfl 17 rfl dX2_overlapsAcross_14 ?_
  refine g_iload_n rfl ld_2 18 rfl dX2_overlapsAcross_17 ?_
  refine g_iald (j := x) (f := g') hB'.2.2 rfl (by omega) (by decide) 19 rfl dX2_overlapsAcross_18 ?_
  refine g_aload_n rfl ld_1 20 rfl dX2_overlapsAcross_19 ?_
  refine g_getf (kf := 1) hB'.1 rfl rfl in_X2 (by decide) q256 rfl 23 rfl dX2_overlapsAcross_20 ?_
  refine g_iload_n rfl ld_3 24 rfl dX2_overlapsAcross_23 ?_
  refine g_iald (j := y) (f := f') hB'.2.1 rfl (by omega) (by decide) 25 rfl dX2_overlapsAcross_24 ?_
  refine g_isub 26 rfl dX2_overlapsAcross_25 ?_
  refine g_icmp_ge 62 29 rfl (by decide) dX2_overlapsAcross_26 (fun c26 => ?_) (fun c26 => ?_)
  · refine g_iconst (v := 0) (by decide) 63 rfl dX2_overlapsAcross_62 ?_
    exact g_iret hR nz_0 (Nat.le_of_ble_eq_true rfl) (Nat.le_of_ble_eq_true rfl) ⟨congrArg (fun p => some (Value.int (bI p))) (show false = acR f g f' g' x y from by simp [acR, *]), rfl⟩ dX2_overlapsAcross_63
  · refine g_aload_n rfl ld_1 30 rfl dX2_overlapsAcross_29 ?_
    refine g_getf (kf := 1) hB'.1 rfl rfl in_X2 (by decide) q256 rfl 33 rfl dX2_overlapsAcross_30 ?_
    refine g_iload_n rfl ld_2 34 rfl dX2_overlapsAcross_33 ?_
    refine g_iald (j := x) (f := f') hB'.2.1 rfl (by omega) (by decide) 35 rfl dX2_overlapsAcross_34 ?_
    refine g_aload_n rfl ld_1 36 rfl dX2_overlapsAcross_35 ?_
    refine g_getf (kf := 2) hB'.1 rfl rfl in_X2 (by decide) q258 rfl 39 rfl dX2_overlapsAcross_36 ?_
    refine g_iload_n rfl ld_3 40 rfl dX2_overlapsAcross_39 ?_
    refine g_iald (j := y) (f := g') hB'.2.2 rfl (by omega) (by decide) 41 rfl dX2_overlapsAcross_40 ?_
    refine g_isub 42 rfl dX2_overlapsAcross_41 ?_
    refine g_aload_n rfl ld_0 43 rfl dX2_overlapsAcross_42 ?_
    refine g_getf (kf := 2) hB.1 rfl rfl in_X2 (by decide) q258 rfl 46 rfl dX2_overlapsAcross_43 ?_
    refine g_iload_n rfl ld_2 47 rfl dX2_overlapsAcross_46 ?_
    refine g_iald (j := x) (f := g) hB.2.2 rfl (by omega) (by decide) 48 rfl dX2_overlapsAcross_47 ?_
    refine g_aload_n rfl ld_0 49 rfl dX2_overlapsAcross_48 ?_
    refine g_getf (kf := 1) hB.1 rfl rfl in_X2 (by decide) q256 rfl 52 rfl dX2_overlapsAcross_49 ?_
    refine g_iload_n rfl ld_3 53 rfl dX2_overlapsAcross_52 ?_
    refine g_iald (j := y) (f := f) hB.2.1 rfl (by omega) (by decide) 54 rfl dX2_overlapsAcross_53 ?_
    refine g_isub 55 rfl dX2_overlapsAcross_54 ?_
    refine g_icmp_ge 62 58 rfl (by decide) dX2_overlapsAcross_55 (fun c55 => ?_) (fun c55 => ?_)
    · refine g_iconst (v := 0) (by decide) 63 rfl dX2_overlapsAcross_62 ?_
      exact g_iret hR nz_0 (Nat.le_of_ble_eq_true rfl) (Nat.le_of_ble_eq_true rfl) ⟨congrArg (fun p => some (Value.int (bI p))) (show false = acR f g f' g' x y from by simp [acR, *]), rfl⟩ dX2_overlapsAcross_63
    · refine g_iconst (v := 1) (by decide) 59 rfl dX2_overlapsAcross_58 ?_
      refine g_goto 63 (by decide) dX2_overlapsAcross_59 ?_
      exact g_iret hR nz_1 (Nat.le_of_ble_eq_true rfl) (Nat.le_of_ble_eq_true rfl) ⟨congrArg (fun p => some (Value.int (bI p))) (show true = acR f g f' g' x y from by simp [acR, *]), rfl⟩ dX2_overlapsAcross_63
def rX2_overlapsInPicture : Room := { frames := 2, cells := 0, slots := 0, locals := 35 }
theorem k_X2_overlapsInPicture : CV yX2_overlapsInPicture cX2_overlapsInPicture 2 (some .boolean) 1 := ⟨q360, q361, q82, q362, by decide +kernel, by decide +kernel, by decide +kernel⟩
set_option maxHeartbeats 400000 in
theorem c_X2_overlapsInPicture (l : Launch) (D : DD) (b : Nat) {σ : Hp} {q lo hi : Nat} {n : Int32} {f g : Nat → Int32} (hB : BxA D σ q lo hi n f g) {q' lo' hi' : Nat} {n' : Int32} {f' g' : Nat → Int32} (hB' : BxA D σ q' lo' hi' n' f' g') : CM l yX2_overlapsInPicture cX2_overlapsInPicture 2 (some .boolean) rX2_overlapsInPicture D b [.ref q, .ref q'] σ (PIx (bI (piB f g f' g')) σ) := by
  refine CM_of [some (.ref q), some (.ref q')] RX2 (by decide) rfl (cat_all rfl) (Nat.le_of_ble_eq_true rfl) rfl ?_
  intro z hz hR hnm
  refine g_aload_n rfl ld_0 1 rfl dX2_overlapsInPicture_0 ?_
  refine g_aload_n rfl ld_1 2 rfl dX2_overlapsInPicture_1 ?_
  refine g_iconst (v := 0) (by decide) 3 rfl dX2_overlapsInPicture_2 ?_
  refine g_iconst (v := 1) (by decide) 4 rfl dX2_overlapsInPicture_3 ?_
  refine g_callV (As := [.ref q', .int ((0 : Int32)), .int ((1 : Int32))]) (rest := []) (ci := 2) (c_X2_overlapsAcross z.l D b hB hB' 0 1 (by omega) (by omega)) k_X2_overlapsAcross q363 hB.1 rfl rfl rfl rfl (Nat.le_of_ble_eq_true rfl) ⟨Nat.le_of_ble_eq_true rfl, Nat.le_of_ble_eq_true rfl⟩ 0 0 (Nat.le_of_ble_eq_true rfl) (Nat.le_of_ble_eq_true rfl) (Nat.le_of_ble_eq_true rfl) (Nat.le_of_ble_eq_true rfl) 7 rfl dX2_overlapsInPicture_4 (fun v σ1 hq => ?_)
  obtain ⟨rfl, rfl⟩ := hq
  refine g_if_eqB 34 10 rfl (by decide) dX2_overlapsInPicture_7 (fun c7 => ?_) (fun c7 => ?_)
  · refine g_iconst (v := 0) (by decide) 35 rfl dX2_overlapsInPicture_34 ?_
    exact g_iret hR nz_0 (Nat.le_of_ble_eq_true rfl) (Nat.le_of_ble_eq_true rfl) ⟨congrArg (fun p => some (Value.int (bI p))) (show false = piB f g f' g' from by simp [piB, *]), rfl⟩ dX2_overlapsInPicture_35
  · refine g_aload_n rfl ld_0 11 rfl dX2_overlapsInPicture_10 ?_
    refine g_aload_n rfl ld_1 12 rfl dX2_overlapsInPicture_11 ?_
    refine g_iconst (v := 1) (by decide) 13 rfl dX2_overlapsInPicture_12 ?_
    refine g_iconst (v := 2) (by decide) 14 rfl dX2_overlapsInPicture_13 ?_
    refine g_callV (As := [.ref q', .int ((1 : Int32)), .int ((2 : Int32))]) (rest := []) (ci := 2) (c_X2_overlapsAcross z.l D b hB hB' 1 2 (by omega) (by omega)) k_X2_overlapsAcross q363 hB.1 rfl rfl rfl rfl (Nat.le_of_ble_eq_true rfl) ⟨Nat.le_of_ble_eq_true rfl, Nat.le_of_ble_eq_true rfl⟩ 0 0 (Nat.le_of_ble_eq_true rfl) (Nat.le_of_ble_eq_true rfl) (Nat.le_of_ble_eq_true rfl) (Nat.le_of_ble_eq_true rfl) 17 rfl dX2_overlapsInPicture_14 (fun v σ1 hq => ?_)
    obtain ⟨rfl, rfl⟩ := hq
    refine g_if_eqB 34 20 rfl (by decide) dX2_overlapsInPicture_17 (fun c17 => ?_) (fun c17 => ?_)
    · refine g_iconst (v := 0) (by decide) 35 rfl dX2_overlapsInPicture_34 ?_
      exact g_iret hR nz_0 (Nat.le_of_ble_eq_true rfl) (Nat.le_of_ble_eq_true rfl) ⟨congrArg (fun p => some (Value.int (bI p))) (show false = piB f g f' g' from by simp [piB, *]), rfl⟩ dX2_overlapsInPicture_35
    · refine g_aload_n rfl ld_0 21 rfl dX2_overlapsInPicture_20 ?_
      refine g_aload_n rfl ld_1 22 rfl dX2_overlapsInPicture_21 ?_
      refine g_iconst (v := 2) (by decide) 23 rfl dX2_overlapsInPicture_22 ?_
      refine g_iconst (v := 0) (by decide) 24 rfl dX2_overlapsInPicture_23 ?_
      refine g_callV (As := [.ref q', .int ((2 : Int32)), .int ((0 : Int32))]) (rest := []) (ci := 2) (c_X2_overlapsAcross z.l D b hB hB' 2 0 (by omega) (by omega)) k_X2_overlapsAcross q363 hB.1 rfl rfl rfl rfl (Nat.le_of_ble_eq_true rfl) ⟨Nat.le_of_ble_eq_true rfl, Nat.le_of_ble_eq_true rfl⟩ 0 0 (Nat.le_of_ble_eq_true rfl) (Nat.le_of_ble_eq_true rfl) (Nat.le_of_ble_eq_true rfl) (Nat.le_of_ble_eq_true rfl) 27 rfl dX2_overlapsInPicture_24 (fun v σ1 hq => ?_)
      obtain ⟨rfl, rfl⟩ := hq
      refine g_if_eqB 34 30 rfl (by decide) dX2_overlapsInPicture_27 (fun c27 => ?_) (fun c27 => ?_)
      · refine g_iconst (v := 0) (by decide) 35 rfl dX2_overlapsInPicture_34 ?_
        exact g_iret hR nz_0 (Nat.le_of_ble_eq_true rfl) (Nat.le_of_ble_eq_true rfl) ⟨congrArg (fun p => some (Value.int (bI p))) (show false = piB f g f' g' from by simp [piB, *]), rfl⟩ dX2_overlapsInPicture_35
      · refine g_iconst (v := 1) (by decide) 31 rfl dX2_overlapsInPicture_30 ?_
        refine g_goto 35 (by decide) dX2_overlapsInPicture_31 ?_
        exact g_iret hR nz_1 (Nat.le_of_ble_eq_true rfl) (Nat.le_of_ble_eq_true rfl) ⟨congrArg (fun p => some (Value.int (bI p))) (show true = piB f g f' g' from by simp [piB, *]), rfl⟩ dX2_overlapsInPicture_35
def rX2_isBehind : Room := { frames := 3, cells := 0, slots := 0, locals := 56 }
theorem k_X2_isBehind : CV yX2_isBehind cX2_isBehind 2 (some .boolean) 1 := ⟨q356, q357, q82, q358, by decide +kernel, by decide +kernel, by decide +kernel⟩
set_option maxHeartbeats 400000 in
theorem c_X2_isBehind (l : Launch) (D : DD) (b : Nat) {σ : Hp} {q lo hi : Nat} {n : Int32} {f g : Nat → Int32} (hB : BxA D σ q lo hi n f g) {q' lo' hi' : Nat} {n' : Int32} {f' g' : Nat → Int32} (hB' : BxA D σ q' lo' hi' n' f' g') : CM l yX2_isBehind cX2_isBehind 2 (some .boolean) rX2_isBehind D b [.ref q, .ref q'] σ (PIx (bI (bhB f g f' g')) σ) := by
  refine CM_of [some (.ref q), some (.ref q')] RX2 (by decide) rfl (cat_all rfl) (Nat.le_of_ble_eq_true rfl) rfl ?_
  intro z hz hR hnm
  refine g_aload_n rfl ld_0 1 rfl dX2_isBehind_0 ?_
  refine g_aload_n rfl ld_1 2 rfl dX2_isBehind_1 ?_
  refine g_callV (As := [.ref q']) (rest := []) (ci := 2) (c_X2_overlapsInPicture z.l D b hB hB') k_X2_overlapsInPicture q359 hB.1 rfl rfl rfl rfl (Nat.le_of_ble_eq_true rfl) ⟨Nat.le_of_ble_eq_true rfl, Nat.le_of_ble_eq_true rfl⟩ 0 0 (Nat.le_of_ble_eq_true rfl) (Nat.le_of_ble_eq_true rfl) (Nat.le_of_ble_eq_true rfl) (Nat.le_of_ble_eq_true rfl) 5 rfl dX2_isBehind_2 (fun v σ1 hq => ?_)
  obtain ⟨rfl, rfl⟩ := hq
  refine g_if_eqB 57 8 rfl (by decide) dX2_isBehind_5 (fun c5 => ?_) (fun c5 => ?_)
  · refine g_iconst (v := 0) (by decide) 58 rfl dX2_isBehind_57 ?_
    exact g_iret hR nz_0 (Nat.le_of_ble_eq_true rfl) (Nat.le_of_ble_eq_true rfl) ⟨congrArg (fun p => some (Value.int (bI p))) (show false = bhB f g f' g' from by simp [bhB, *]), rfl⟩ dX2_isBehind_58
  · refine g_aload_n rfl ld_0 9 rfl dX2_isBehind_8 ?_
    refine g_getf (kf := 2) hB.1 rfl rfl in_X2 (by decide) q258 rfl 12 rfl dX2_isBehind_9 ?_
    refine g_iconst (v := 0) (by decide) 13 rfl dX2_isBehind_12 ?_
    refine g_iald (j := 0) (f := g) hB.2.2 (show (0 : Int32) = nI 0 from rfl) (by omega) (by decide) 14 rfl dX2_isBehind_13 ?_
    refine g_aload_n rfl ld_1 15 rfl dX2_isBehind_14 ?_
    refine g_getf (kf := 1) hB'.1 rfl rfl in_X2 (by decide) q256 rfl 18 rfl dX2_isBehind_15 ?_
    refine g_iconst (v := 0) (by decide) 19 rfl dX2_isBehind_18 ?_
    refine g_iald (j := 0) (f := f') hB'.2.1 (show (0 : Int32) = nI 0 from rfl) (by omega) (by decide) 20 rfl dX2_isBehind_19 ?_
    refine g_icmp_le 53 23 rfl (by decide) dX2_isBehind_20 (fun c20 => ?_) (fun c20 => ?_)
    · refine g_iconst (v := 1) (by decide) 54 rfl dX2_isBehind_53 ?_
      refine g_goto 58 (by decide) dX2_isBehind_54 ?_
      exact g_iret hR nz_1 (Nat.le_of_ble_eq_true rfl) (Nat.le_of_ble_eq_true rfl) ⟨congrArg (fun p => some (Value.int (bI p))) (show true = bhB f g f' g' from by simp [bhB, *]), rfl⟩ dX2_isBehind_58
    · refine g_aload_n rfl ld_0 24 rfl dX2_isBehind_23 ?_
      refine g_getf (kf := 2) hB.1 rfl rfl in_X2 (by decide) q258 rfl 27 rfl dX2_isBehind_24 ?_
      refine g_iconst (v := 1) (by decide) 28 rfl dX2_isBehind_27 ?_
      refine g_iald (j := 1) (f := g) hB.2.2 (show (1 : Int32) = nI 1 from rfl) (by omega) (by decide) 29 rfl dX2_isBehind_28 ?_
      refine g_aload_n rfl ld_1 30 rfl dX2_isBehind_29 ?_
      refine g_getf (kf := 1) hB'.1 rfl rfl in_X2 (by decide) q256 rfl 33 rfl dX2_isBehind_30 ?_
      refine g_iconst (v := 1) (by decide) 34 rfl dX2_isBehind_33 ?_
      refine g_iald (j := 1) (f := f') hB'.2.1 (show (1 : Int32) = nI 1 from rfl) (by omega) (by decide) 35 rfl dX2_isBehind_34 ?_
      refine g_icmp_le 53 38 rfl (by decide) dX2_isBehind_35 (fun c35 => ?_) (fun c35 => ?_)
      · refine g_iconst (v := 1) (by decide) 54 rfl dX2_isBehind_53 ?_
        refine g_goto 58 (by decide) dX2_isBehind_54 ?_
        exact g_iret hR nz_1 (Nat.le_of_ble_eq_true rfl) (Nat.le_of_ble_eq_true rfl) ⟨congrArg (fun p => some (Value.int (bI p))) (show true = bhB f g f' g' from by simp [bhB, *]), rfl⟩ dX2_isBehind_58
      · refine g_aload_n rfl ld_0 39 rfl dX2_isBehind_38 ?_
        refine g_getf (kf := 2) hB.1 rfl rfl in_X2 (by decide) q258 rfl 42 rfl dX2_isBehind_39 ?_
        refine g_iconst (v := 2) (by decide) 43 rfl dX2_isBehind_42 ?_
        refine g_iald (j := 2) (f := g) hB.2.2 (show (2 : Int32) = nI 2 from rfl) (by omega) (by decide) 44 rfl dX2_isBehind_43 ?_
        refine g_aload_n rfl ld_1 45 rfl dX2_isBehind_44 ?_
        refine g_getf (kf := 1) hB'.1 rfl rfl in_X2 (by decide) q256 rfl 48 rfl dX2_isBehind_45 ?_
        refine g_iconst (v := 2) (by decide) 49 rfl dX2_isBehind_48 ?_
        refine g_iald (j := 2) (f := f') hB'.2.1 (show (2 : Int32) = nI 2 from rfl) (by omega) (by decide) 50 rfl dX2_isBehind_49 ?_
        refine g_icmp_gt 57 53 rfl (by decide) dX2_isBehind_50 (fun c50 => ?_) (fun c50 => ?_)
        · refine g_iconst (v := 0) (by decide) 58 rfl dX2_isBehind_57 ?_
          exact g_iret hR nz_0 (Nat.le_of_ble_eq_true rfl) (Nat.le_of_ble_eq_true rfl) ⟨congrArg (fun p => some (Value.int (bI p))) (show false = bhB f g f' g' from by simp [bhB, *]), rfl⟩ dX2_isBehind_58
        · refine g_iconst (v := 1) (by decide) 54 rfl dX2_isBehind_53 ?_
          refine g_goto 58 (by decide) dX2_isBehind_54 ?_
          exact g_iret hR nz_1 (Nat.le_of_ble_eq_true rfl) (Nat.le_of_ble_eq_true rfl) ⟨congrArg (fun p => some (Value.int (bI p))) (show true = bhB f g f' g' from by simp [bhB, *]), rfl⟩ dX2_isBehind_58
def rX2_isCutBy : Room := { frames := 1, cells := 0, slots := 0, locals := 12 }
theorem k_X2_isCutBy : CV yX2_isCutBy cX2_isCutBy 3 (some .boolean) 2 := ⟨q395, q396, q82, q397, by decide +kernel, by decide +kernel, by decide +kernel⟩
set_option maxHeartbeats 400000 in
theorem c_X2_isCutBy (l : Launch) (D : DD) (b : Nat) {σ : Hp} {q lo hi : Nat} {n : Int32} {f g : Nat → Int32} (hB : BxA D σ q lo hi n f g) (x : Nat) (a : Int32) (hx : x < 3) : CM l yX2_isCutBy cX2_isCutBy 3 (some .boolean) rX2_isCutBy D b [.ref q, .int (nI x), .int a] σ (PIx (bI (ctB f g x a)) σ) := by
  refine CM_of [some (.ref q), some (.int (nI x)), some (.int a)] RX2 (by decide) rfl (cat_all rfl) (Nat.le_of_ble_eq_true rfl) rfl ?_
  intro z hz hR hnm
  refine g_aload_n rfl ld_0 1 rfl dX2_isCutBy_0 ?_
  refine g_getf (kf := 1) hB.1 rfl rfl in_X2 (by decide) q256 rfl 4 rfl dX2_isCutBy_1 ?_
  refine g_iload_n rfl ld_1 5 rfl dX2_isCutBy_4 ?_
  refine g_iald (j := x) (f := f) hB.2.1 rfl (by omega) (by decide) 6 rfl dX2_isCutBy_5 ?_
  refine g_iload_n rfl ld_2 7 rfl dX2_isCutBy_6 ?_
  refine g_icmp_ge 24 10 rfl (by decide) dX2_isCutBy_7 (fun c7 => ?_) (fun c7 => ?_)
  · refine g_iconst (v := 0) (by decide) 25 rfl dX2_isCutBy_24 ?_
    exact g_iret hR nz_0 (Nat.le_of_ble_eq_true rfl) (Nat.le_of_ble_eq_true rfl) ⟨congrArg (fun p => some (Value.int (bI p))) (show false = ctB f g x a from by simp [ctB, *]), rfl⟩ dX2_isCutBy_25
  · refine g_iload_n rfl ld_2 11 rfl dX2_isCutBy_10 ?_
    refine g_aload_n rfl ld_0 12 rfl dX2_isCutBy_11 ?_
    refine g_getf (kf := 2) hB.1 rfl rfl in_X2 (by decide) q258 rfl 15 rfl dX2_isCutBy_12 ?_
    refine g_iload_n rfl ld_1 16 rfl dX2_isCutBy_15 ?_
    refine g_iald (j := x) (f := g) hB.2.2 rfl (by omega) (by decide) 17 rfl dX2_isCutBy_16 ?_
    refine g_icmp_ge 24 20 rfl (by decide) dX2_isCutBy_17 (fun c17 => ?_) (fun c17 => ?_)
    · refine g_iconst (v := 0) (by decide) 25 rfl dX2_isCutBy_24 ?_
      exact g_iret hR nz_0 (Nat.le_of_ble_eq_true rfl) (Nat.le_of_ble_eq_true rfl) ⟨congrArg (fun p => some (Value.int (bI p))) (show false = ctB f g x a from by simp [ctB, *]), rfl⟩ dX2_isCutBy_25
    · refine g_iconst (v := 1) (by decide) 21 rfl dX2_isCutBy_20 ?_
      refine g_goto 25 (by decide) dX2_isCutBy_21 ?_
      exact g_iret hR nz_1 (Nat.le_of_ble_eq_true rfl) (Nat.le_of_ble_eq_true rfl) ⟨congrArg (fun p => some (Value.int (bI p))) (show true = ctB f g x a from by simp [ctB, *]), rfl⟩ dX2_isCutBy_25
def rX2_corner : Room := { frames := 1, cells := 0, slots := 0, locals := 12 }
theorem k_X2_corner : CV yX2_corner cX2_corner 2 (some .int) 1 := ⟨q427, q428, q82, q429, by decide +kernel, by decide +kernel, by decide +kernel⟩
set_option maxHeartbeats 400000 in
theorem c_X2_corner (l : Launch) (D : DD) (b : Nat) {σ : Hp} {q lo hi : Nat} {n : Int32} {f g : Nat → Int32} (hB : BxA D σ q lo hi n f g) (x : Nat) (hx : x < 6) : CM l yX2_corner cX2_corner 2 (some .int) rX2_corner D b [.ref q, .int (nI x)] σ (PIx (crB f g x) σ) := by
  refine CM_of [some (.ref q), some (.int (nI x))] RX2 (by decide) rfl (cat_all rfl) (Nat.le_of_ble_eq_true rfl) rfl ?_
  intro z hz hR hnm
  refine g_iload_n rfl ld_1 1 rfl dX2_corner_0 ?_
  refine g_iconst (v := 3) (by decide) 2 rfl dX2_corner_1 ?_
  refine g_icmp_geN (a := x) (c := 3) rfl (show (3 : Int32) = nI 3 from rfl) (by omega) (by omega) 14 5 rfl (by decide) dX2_corner_2 (fun c2 => ?_) (fun c2 => ?_)
  · refine g_aload_n rfl ld_0 15 rfl dX2_corner_14 ?_
    refine g_getf (kf := 2) hB.1 rfl rfl in_X2 (by decide) q258 rfl 18 rfl dX2_corner_15 ?_
    refine g_iload_n rfl ld_1 19 rfl dX2_corner_18 ?_
    refine g_iconst (v := 3) (by decide) 20 rfl dX2_corner_19 ?_
    refine g_isubN (a := x) (c := 3) rfl (show (3 : Int32) = nI 3 from rfl) (by omega) 21 rfl dX2_corner_20 ?_
    refine g_iald (j := (x - 3)) (f := g) hB.2.2 rfl (by omega) (by decide) 22 rfl dX2_corner_21 ?_
    exact g_iret hR rfl (Nat.le_of_ble_eq_true rfl) (Nat.le_of_ble_eq_true rfl) ⟨congrArg (fun p => some (Value.int p)) (show g ((x - 3)) = crB f g x from by unfold crB; first | rw [if_pos (by omega)] | rw [if_neg (by omega)]), rfl⟩ dX2_corner_22
  · refine g_aload_n rfl ld_0 6 rfl dX2_corner_5 ?_
    refine g_getf (kf := 1) hB.1 rfl rfl in_X2 (by decide) q256 rfl 9 rfl dX2_corner_6 ?_
    refine g_iload_n rfl ld_1 10 rfl dX2_corner_9 ?_
    refine g_iald (j := x) (f := f) hB.2.1 rfl (by omega) (by decide) 11 rfl dX2_corner_10 ?_
    refine g_goto 22 (by decide) dX2_corner_11 ?_
    exact g_iret hR rfl (Nat.le_of_ble_eq_true rfl) (Nat.le_of_ble_eq_true rfl) ⟨congrArg (fun p => some (Value.int p)) (show f x = crB f g x from by unfold crB; first | rw [if_pos (by omega)] | rw [if_neg (by omega)]), rfl⟩ dX2_corner_22
theorem al_at {p : Nat → Bool} : ∀ {n i : Nat}, al p n = true → i < n → p i = true
  | 0, i, _, h => absurd h (by omega)
  | n + 1, i, h, hi => by
    rw [al, Bool.and_eq_true] at h
    by_cases e : i = n
    · subst e; exact h.2
    · exact al_at h.1 (by omega)
def rX2_isPossible : Room := { frames := 1, cells := 0, slots := 0, locals := 12 }
theorem k_X2_isPossible : CV yX2_isPossible cX2_isPossible 2 (some .boolean) 0 := ⟨q268, q269, q82, q270, by decide +kernel, by decide +kernel, by decide +kernel⟩
set_option maxHeartbeats 400000 in
theorem c_X2_isPossible (l : Launch) (D : DD) (b : Nat) {σ : Hp} {q lo hi : Nat} {n : Int32} {f g : Nat → Int32} (hB : BxA D σ q lo hi n f g) : CM l yX2_isPossible cX2_isPossible 2 (some .boolean) rX2_isPossible D b [.ref q] σ (PIx (bI (al (okB f g) 3)) σ) := by
  refine CM_of [some (.ref q), none] RX2 (by decide) rfl (cat_all rfl) (Nat.le_of_ble_eq_true rfl) rfl ?_
  intro z hz hR hnm
  refine g_iconst (v := 0) (by decide) 1 rfl dX2_isPossible_0 ?_
  refine g_istore_n rfl sa_1 2 rfl dX2_isPossible_1 ?_
  have lp2 : ∀ (fu i : Nat), i ≤ 3 → 3 + 1 ≤ i + fu → (al (okB f g) i = true) → G z cX2_isPossible RX2 2 rX2_isPossible D b σ 0 0 2 [some (.ref q), some (.int (nI i))] [] := by
    intro fu
    induction fu with
    | zero => intros; omega
    | succ fu ih2 =>
      intro i  hi hf hal
      refine g_iload_n rfl ld_1 3 rfl dX2_isPossible_2 ?_
      refine g_iconst (v := 3) (by decide) 4 rfl dX2_isPossible_3 ?_
      refine g_icmp_geN (a := i) (c := 3) rfl (show (3 : Int32) = nI 3 from rfl) (by omega) (by omega) 50 7 rfl (by decide) dX2_isPossible_4 (fun c4 => ?_) (fun c4 => ?_)
      · refine g_iconst (v := 1) (by decide) 51 rfl dX2_isPossible_50 ?_
        obtain rfl : i = 3 := by omega
        exact g_iret hR nz_1 (Nat.le_of_ble_eq_true rfl) (Nat.le_of_ble_eq_true rfl) ⟨congrArg (fun p => some (Value.int (bI p))) hal.symm, rfl⟩ dX2_isPossible_51
      · refine g_aload_n rfl ld_0 8 rfl dX2_isPossible_7 ?_
        refine g_getf (kf := 1) hB.1 rfl rfl in_X2 (by decide) q256 rfl 11 rfl dX2_isPossible_8 ?_
        refine g_iload_n rfl ld_1 12 rfl dX2_isPossible_11 ?_
        refine g_iald (j := i) (f := f) hB.2.1 rfl (by omega) (by decide) 13 rfl dX2_isPossible_12 ?_
        refine g_if_lt 42 16 rfl (by decide) dX2_isPossible_13 (fun c13 => ?_) (fun c13 => ?_)
        · refine g_iconst (v := 0) (by decide) 43 rfl dX2_isPossible_42 ?_
          have e9 : al (okB f g) 3 = false := by
            rw [← Bool.not_eq_true]; intro e; have h9 := al_at e (show i < 3 by omega); have h8 : okB f g i = false := by first | (simp [okB, c13]; done) | (simp [okB, c24]; done) | (simp [okB, c39]; done)
            rw [h8] at h9; cases h9
          exact g_iret hR nz_0 (Nat.le_of_ble_eq_true rfl) (Nat.le_of_ble_eq_true rfl) ⟨congrArg (fun p => some (Value.int (bI p))) e9.symm, rfl⟩ dX2_isPossible_43
        · refine g_aload_n rfl ld_0 17 rfl dX2_isPossible_16 ?_
          refine g_getf (kf := 2) hB.1 rfl rfl in_X2 (by decide) q258 rfl 20 rfl dX2_isPossible_17 ?_
          refine g_iload_n rfl ld_1 21 rfl dX2_isPossible_20 ?_
          refine g_iald (j := i) (f := g) hB.2.2 rfl (by omega) (by decide) 22 rfl dX2_isPossible_21 ?_
          refine g_bipush (v := 32) (by decide) 24 rfl dX2_isPossible_22 ?_
          refine g_icmp_gt 42 27 rfl (by decide) dX2_isPossible_24 (fun c24 => ?_) (fun c24 => ?_)
          · refine g_iconst (v := 0) (by decide) 43 rfl dX2_isPossible_42 ?_
            have e9 : al (okB f g) 3 = false := by
              rw [← Bool.not_eq_true]; intro e; have h9 := al_at e (show i < 3 by omega); have h8 : okB f g i = false := by first | (simp [okB, c13]; done) | (simp [okB, c24]; done) | (simp [okB, c39]; done)
              rw [h8] at h9; cases h9
            exact g_iret hR nz_0 (Nat.le_of_ble_eq_true rfl) (Nat.le_of_ble_eq_true rfl) ⟨congrArg (fun p => some (Value.int (bI p))) e9.symm, rfl⟩ dX2_isPossible_43
          · refine g_aload_n rfl ld_0 28 rfl dX2_isPossible_27 ?_
            refine g_getf (kf := 1) hB.1 rfl rfl in_X2 (by decide) q256 rfl 31 rfl dX2_isPossible_28 ?_
            refine g_iload_n rfl ld_1 32 rfl dX2_isPossible_31 ?_
            refine g_iald (j := i) (f := f) hB.2.1 rfl (by omega) (by decide) 33 rfl dX2_isPossible_32 ?_
            refine g_aload_n rfl ld_0 34 rfl dX2_isPossible_33 ?_
            refine g_getf (kf := 2) hB.1 rfl rfl in_X2 (by decide) q258 rfl 37 rfl dX2_isPossible_34 ?_
            refine g_iload_n rfl ld_1 38 rfl dX2_isPossible_37 ?_
            refine g_iald (j := i) (f := g) hB.2.2 rfl (by omega) (by decide) 39 rfl dX2_isPossible_38 ?_
            refine g_icmp_lt 44 42 rfl (by decide) dX2_isPossible_39 (fun c39 => ?_) (fun c39 => ?_)
            · refine g_iinc (v := nI (i + 1)) ld_1 (nI_1 _) sa_1 47 rfl dX2_isPossible_44 ?_
              refine g_goto 2 (by decide) dX2_isPossible_47 ?_
              exact ih2 (i + 1) (by omega) (by omega) (by rw [al, hal]; simp [okB, *])
            · refine g_iconst (v := 0) (by decide) 43 rfl dX2_isPossible_42 ?_
              have e9 : al (okB f g) 3 = false := by
                rw [← Bool.not_eq_true]; intro e; have h9 := al_at e (show i < 3 by omega); have h8 : okB f g i = false := by first | (simp [okB, c13]; done) | (simp [okB, c24]; done) | (simp [okB, c39]; done)
                rw [h8] at h9; cases h9
              exact g_iret hR nz_0 (Nat.le_of_ble_eq_true rfl) (Nat.le_of_ble_eq_true rfl) ⟨congrArg (fun p => some (Value.int (bI p))) e9.symm, rfl⟩ dX2_isPossible_43
  exact lp2 (3 + 1) 0 (by omega) (by omega) (rfl)
def enB (f : Nat → Int32) (u v s : Int32) : Int32 := mxI (mxI (3 * (f 0 - u) - 1 - s) (3 * (f 1 - v) - 2 + s)) (3 * f 2)
def exB (g : Nat → Int32) (u v s : Int32) : Int32 := mnI (mnI (3 * (g 0 - u) - 1 - s) (3 * (g 1 - v) - 2 + s)) (3 * g 2)
def hiB (f g : Nat → Int32) (u v s : Int32) : Bool := decide (enB f u v s < exB g u v s)
def xfB (g : Nat → Int32) (u v s : Int32) : Int32 := if exB g u v s = 3 * g 2 then 2 else if exB g u v s = 3 * (g 0 - u) - 1 - s then 0 else 1
def tiB (f g f' g' : Nat → Int32) (x : Nat) : Bool := (decide (g x = f' x) || decide (g' x = f x)) && onR f g f' g' ((x + 1) % 3) && onR f g f' g' ((x + 2) % 3)
def taB (f g f' g' : Nat → Int32) : Int32 := ff (tiB f g f' g') (-106) 3 0
def rX2_entry : Room := { frames := 2, cells := 0, slots := 0, locals := 34 }
theorem k_X2_entry : CV yX2_entry cX2_entry 4 (some .int) 3 := ⟨q1473, q1474, q82, q1475, by decide +kernel, by decide +kernel, by decide +kernel⟩
set_option maxHeartbeats 400000 in
theorem c_X2_entry (l : Launch) (D : DD) (b : Nat) {σ : Hp} {q lo hi : Nat} {n : Int32} {f g : Nat → Int32} (hB : BxA D σ q lo hi n f g) (u v s : Int32) : CM l yX2_entry cX2_entry 4 (some .int) rX2_entry D b [.ref q, .int u, .int v, .int s] σ (PIx (enB f u v s) σ) := by
  refine CM_of [some (.ref q), some (.int u), some (.int v), some (.int s)] RX2 (by decide) rfl (cat_all rfl) (Nat.le_of_ble_eq_true rfl) rfl ?_
  intro z hz hR hnm
  refine g_iconst (v := 3) (by decide) 1 rfl dX2_entry_0 ?_
  refine g_aload_n rfl ld_0 2 rfl dX2_entry_1 ?_
  refine g_getf (kf := 1) hB.1 rfl rfl in_X2 (by decide) q256 rfl 5 rfl dX2_entry_2 ?_
  refine g_iconst (v := 0) (by decide) 6 rfl dX2_entry_5 ?_
  refine g_iald (j := 0) (f := f) hB.2.1 (show (0 : Int32) = nI 0 from rfl) (by omega) (by decide) 7 rfl dX2_entry_6 ?_
  refine g_iload_n rfl ld_1 8 rfl dX2_entry_7 ?_
  refine g_isub 9 rfl dX2_entry_8 ?_
  refine g_imul 10 rfl dX2_entry_9 ?_
  refine g_iconst (v := 1) (by decide) 11 rfl dX2_entry_10 ?_
  refine g_isub 12 rfl dX2_entry_11 ?_
  refine g_iload_n rfl ld_3 13 rfl dX2_entry_12 ?_
  refine g_isub 14 rfl dX2_entry_13 ?_
  refine g_iconst (v := 3) (by decide) 15 rfl dX2_entry_14 ?_
  refine g_aload_n rfl ld_0 16 rfl dX2_entry_15 ?_
  refine g_getf (kf := 1) hB.1 rfl rfl in_X2 (by decide) q256 rfl 19 rfl dX2_entry_16 ?_
  refine g_iconst (v := 1) (by decide) 20 rfl dX2_entry_19 ?_
  refine g_iald (j := 1) (f := f) hB.2.1 (show (1 : Int32) = nI 1 from rfl) (by omega) (by decide) 21 rfl dX2_entry_20 ?_
  refine g_iload_n rfl ld_2 22 rfl dX2_entry_21 ?_
  refine g_isub 23 rfl dX2_entry_22 ?_
  refine g_imul 24 rfl dX2_entry_23 ?_
  refine g_iconst (v := 2) (by decide) 25 rfl dX2_entry_24 ?_
  refine g_isub 26 rfl dX2_entry_25 ?_
  refine g_iload_n rfl ld_3 27 rfl dX2_entry_26 ?_
  refine g_iadd 28 rfl dX2_entry_27 ?_
  refine g_mmax q1476 (Nat.le_of_ble_eq_true rfl) (Nat.le_of_ble_eq_true rfl) (Nat.le_of_ble_eq_true rfl) (Nat.le_of_ble_eq_true rfl) 31 rfl dX2_entry_28 ?_
  refine g_iconst (v := 3) (by decide) 32 rfl dX2_entry_31 ?_
  refine g_aload_n rfl ld_0 33 rfl dX2_entry_32 ?_
  refine g_getf (kf := 1) hB.1 rfl rfl in_X2 (by decide) q256 rfl 36 rfl dX2_entry_33 ?_
  refine g_iconst (v := 2) (by decide) 37 rfl dX2_entry_36 ?_
  refine g_iald (j := 2) (f := f) hB.2.1 (show (2 : Int32) = nI 2 from rfl) (by omega) (by decide) 38 rfl dX2_entry_37 ?_
  refine g_imul 39 rfl dX2_entry_38 ?_
  refine g_mmax q1476 (Nat.le_of_ble_eq_true rfl) (Nat.le_of_ble_eq_true rfl) (Nat.le_of_ble_eq_true rfl) (Nat.le_of_ble_eq_true rfl) 42 rfl dX2_entry_39 ?_
  exact g_iret hR rfl (Nat.le_of_ble_eq_true rfl) (Nat.le_of_ble_eq_true rfl) ⟨congrArg (fun p => some (Value.int p)) (show mxI (mxI (((((3 : Int32)) * ((f 0) - u)) - ((1 : Int32))) - s) (((((3 : Int32)) * ((f 1) - v)) - ((2 : Int32))) + s)) (((3 : Int32)) * (f 2)) = enB f u v s from by rfl), rfl⟩ dX2_entry_42
def rX2_exit : Room := { frames := 2, cells := 0, slots := 0, locals := 34 }
theorem k_X2_exit : CV yX2_exit cX2_exit 4 (some .int) 3 := ⟨q1478, q1479, q82, q1480, by decide +kernel, by decide +kernel, by decide +kernel⟩
set_option maxHeartbeats 400000 in
theorem c_X2_exit (l : Launch) (D : DD) (b : Nat) {σ : Hp} {q lo hi : Nat} {n : Int32} {f g : Nat → Int32} (hB : BxA D σ q lo hi n f g) (u v s : Int32) : CM l yX2_exit cX2_exit 4 (some .int) rX2_exit D b [.ref q, .int u, .int v, .int s] σ (PIx (exB g u v s) σ) := by
  refine CM_of [some (.ref q), some (.int u), some (.int v), some (.int s)] RX2 (by decide) rfl (cat_all rfl) (Nat.le_of_ble_eq_true rfl) rfl ?_
  intro z hz hR hnm
  refine g_iconst (v := 3) (by decide) 1 rfl dX2_exit_0 ?_
  refine g_aload_n rfl ld_0 2 rfl dX2_exit_1 ?_
  refine g_getf (kf := 2) hB.1 rfl rfl in_X2 (by decide) q258 rfl 5 rfl dX2_exit_2 ?_
  refine g_iconst (v := 0) (by decide) 6 rfl dX2_exit_5 ?_
  refine g_iald (j := 0) (f := g) hB.2.2 (show (0 : Int32) = nI 0 from rfl) (by omega) (by decide) 7 rfl dX2_exit_6 ?_
  refine g_iload_n rfl ld_1 8 rfl dX2_exit_7 ?_
  refine g_isub 9 rfl dX2_exit_8 ?_
  refine g_imul 10 rfl dX2_exit_9 ?_
  refine g_iconst (v := 1) (by decide) 11 rfl dX2_exit_10 ?_
  refine g_isub 12 rfl dX2_exit_11 ?_
  refine g_iload_n rfl ld_3 13 rfl dX2_exit_12 ?_
  refine g_isub 14 rfl dX2_exit_13 ?_
  refine g_iconst (v := 3) (by decide) 15 rfl dX2_exit_14 ?_
  refine g_aload_n rfl ld_0 16 rfl dX2_exit_15 ?_
  refine g_getf (kf := 2) hB.1 rfl rfl in_X2 (by decide) q258 rfl 19 rfl dX2_exit_16 ?_
  refine g_iconst (v := 1) (by decide) 20 rfl dX2_exit_19 ?_
  refine g_iald (j := 1) (f := g) hB.2.2 (show (1 : Int32) = nI 1 from rfl) (by omega) (by decide) 21 rfl dX2_exit_20 ?_
  refine g_iload_n rfl ld_2 22 rfl dX2_exit_21 ?_
  refine g_isub 23 rfl dX2_exit_22 ?_
  refine g_imul 24 rfl dX2_exit_23 ?_
  refine g_iconst (v := 2) (by decide) 25 rfl dX2_exit_24 ?_
  refine g_isub 26 rfl dX2_exit_25 ?_
  refine g_iload_n rfl ld_3 27 rfl dX2_exit_26 ?_
  refine g_iadd 28 rfl dX2_exit_27 ?_
  refine g_mmin q1481 (Nat.le_of_ble_eq_true rfl) (Nat.le_of_ble_eq_true rfl) (Nat.le_of_ble_eq_true rfl) (Nat.le_of_ble_eq_true rfl) 31 rfl dX2_exit_28 ?_
  refine g_iconst (v := 3) (by decide) 32 rfl dX2_exit_31 ?_
  refine g_aload_n rfl ld_0 33 rfl dX2_exit_32 ?_
  refine g_getf (kf := 2) hB.1 rfl rfl in_X2 (by decide) q258 rfl 36 rfl dX2_exit_33 ?_
  refine g_iconst (v := 2) (by decide) 37 rfl dX2_exit_36 ?_
  refine g_iald (j := 2) (f := g) hB.2.2 (show (2 : Int32) = nI 2 from rfl) (by omega) (by decide) 38 rfl dX2_exit_37 ?_
  refine g_imul 39 rfl dX2_exit_38 ?_
  refine g_mmin q1481 (Nat.le_of_ble_eq_true rfl) (Nat.le_of_ble_eq_true rfl) (Nat.le_of_ble_eq_true rfl) (Nat.le_of_ble_eq_true rfl) 42 rfl dX2_exit_39 ?_
  exact g_iret hR rfl (Nat.le_of_ble_eq_true rfl) (Nat.le_of_ble_eq_true rfl) ⟨congrArg (fun p => some (Value.int p)) (show mnI (mnI (((((3 : Int32)) * ((g 0) - u)) - ((1 : Int32))) - s) (((((3 : Int32)) * ((g 1) - v)) - ((2 : Int32))) + s)) (((3 : Int32)) * (g 2)) = exB g u v s from by rfl), rfl⟩ dX2_exit_42
def rX2_isMetBy : Room := { frames := 3, cells := 0, slots := 0, locals := 57 }
theorem k_X2_isMetBy : CV yX2_isMetBy cX2_isMetBy 4 (some .boolean) 3 := ⟨q1469, q1470, q82, q1471, by decide +kernel, by decide +kernel, by decide +kernel⟩
set_option maxHeartbeats 400000 in
theorem c_X2_isMetBy (l : Launch) (D : DD) (b : Nat) {σ : Hp} {q lo hi : Nat} {n : Int32} {f g : Nat → Int32} (hB : BxA D σ q lo hi n f g) (u v s : Int32) : CM l yX2_isMetBy cX2_isMetBy 4 (some .boolean) rX2_isMetBy D b [.ref q, .int u, .int v, .int s] σ (PIx (bI (hiB f g u v s)) σ) := by
  refine CM_of [some (.ref q), some (.int u), some (.int v), some (.int s)] RX2 (by decide) rfl (cat_all rfl) (Nat.le_of_ble_eq_true rfl) rfl ?_
  intro z hz hR hnm
  refine g_aload_n rfl ld_0 1 rfl dX2_isMetBy_0 ?_
  refine g_iload_n rfl ld_1 2 rfl dX2_isMetBy_1 ?_
  refine g_iload_n rfl ld_2 3 rfl dX2_isMetBy_2 ?_
  refine g_iload_n rfl ld_3 4 rfl dX2_isMetBy_3 ?_
  refine g_callV (As := [.int u, .int v, .int s]) (rest := []) (ci := 2) (c_X2_entry z.l D b hB u v s) k_X2_entry q1472 hB.1 rfl rfl rfl rfl (Nat.le_of_ble_eq_true rfl) ⟨Nat.le_of_ble_eq_true rfl, Nat.le_of_ble_eq_true rfl⟩ 0 0 (Nat.le_of_ble_eq_true rfl) (Nat.le_of_ble_eq_true rfl) (Nat.le_of_ble_eq_true rfl) (Nat.le_of_ble_eq_true rfl) 7 rfl dX2_isMetBy_4 (fun v σ1 hq => ?_)
  obtain ⟨rfl, rfl⟩ := hq
  refine g_aload_n rfl ld_0 8 rfl dX2_isMetBy_7 ?_
  refine g_iload_n rfl ld_1 9 rfl dX2_isMetBy_8 ?_
  refine g_iload_n rfl ld_2 10 rfl dX2_isMetBy_9 ?_
  refine g_iload_n rfl ld_3 11 rfl dX2_isMetBy_10 ?_
  refine g_callV (As := [.int u, .int v, .int s]) (rest := [.int (enB f u v s)]) (ci := 2) (c_X2_exit z.l D b hB u v s) k_X2_exit q1477 hB.1 rfl rfl rfl rfl (Nat.le_of_ble_eq_true rfl) ⟨Nat.le_of_ble_eq_true rfl, Nat.le_of_ble_eq_true rfl⟩ 0 0 (Nat.le_of_ble_eq_true rfl) (Nat.le_of_ble_eq_true rfl) (Nat.le_of_ble_eq_true rfl) (Nat.le_of_ble_eq_true rfl) 14 rfl dX2_isMetBy_11 (fun v σ1 hq => ?_)
  obtain ⟨rfl, rfl⟩ := hq
  refine g_icmp_ge 21 17 rfl (by decide) dX2_isMetBy_14 (fun c14 => ?_) (fun c14 => ?_)
  · refine g_iconst (v := 0) (by decide) 22 rfl dX2_isMetBy_21 ?_
    exact g_iret hR nz_0 (Nat.le_of_ble_eq_true rfl) (Nat.le_of_ble_eq_true rfl) ⟨congrArg (fun p => some (Value.int (bI p))) (show false = hiB f g u v s from by simp [hiB, *]), rfl⟩ dX2_isMetBy_22
  · refine g_iconst (v := 1) (by decide) 18 rfl dX2_isMetBy_17 ?_
    refine g_goto 22 (by decide) dX2_isMetBy_18 ?_
    exact g_iret hR nz_1 (Nat.le_of_ble_eq_true rfl) (Nat.le_of_ble_eq_true rfl) ⟨congrArg (fun p => some (Value.int (bI p))) (show true = hiB f g u v s from by simp [hiB, *]), rfl⟩ dX2_isMetBy_22
def rX2_exitFace : Room := { frames := 3, cells := 0, slots := 0, locals := 57 }
theorem k_X2_exitFace : CV yX2_exitFace cX2_exitFace 5 (some .int) 3 := ⟨q1500, q1501, q82, q1502, by decide +kernel, by decide +kernel, by decide +kernel⟩
set_option maxHeartbeats 400000 in
theorem c_X2_exitFace (l : Launch) (D : DD) (b : Nat) {σ : Hp} {q lo hi : Nat} {n : Int32} {f g : Nat → Int32} (hB : BxA D σ q lo hi n f g) (u v s : Int32) : CM l yX2_exitFace cX2_exitFace 5 (some .int) rX2_exitFace D b [.ref q, .int u, .int v, .int s] σ (PIx (xfB g u v s) σ) := by
  refine CM_of [some (.ref q), some (.int u), some (.int v), some (.int s), none] RX2 (by decide) rfl (cat_all rfl) (Nat.le_of_ble_eq_true rfl) rfl ?_
  intro z hz hR hnm
  refine g_aload_n rfl ld_0 1 rfl dX2_exitFace_0 ?_
  refine g_iload_n rfl ld_1 2 rfl dX2_exitFace_1 ?_
  refine g_iload_n rfl ld_2 3 rfl dX2_exitFace_2 ?_
  refine g_iload_n rfl ld_3 4 rfl dX2_exitFace_3 ?_
  refine g_callV (As := [.int u, .int v, .int s]) (rest := []) (ci := 2) (c_X2_exit z.l D b hB u v s) k_X2_exit q1477 hB.1 rfl rfl rfl rfl (Nat.le_of_ble_eq_true rfl) ⟨Nat.le_of_ble_eq_true rfl, Nat.le_of_ble_eq_true rfl⟩ 0 0 (Nat.le_of_ble_eq_true rfl) (Nat.le_of_ble_eq_true rfl) (Nat.le_of_ble_eq_true rfl) (Nat.le_of_ble_eq_true rfl) 7 rfl dX2_exitFace_4 (fun v σ1 hq => ?_)
  obtain ⟨rfl, rfl⟩ := hq
  refine g_istore sa_4 9 rfl dX2_exitFace_7 ?_
  refine g_iload ld_4 11 rfl dX2_exitFace_9 ?_
  refine g_iconst (v := 3) (by decide) 12 rfl dX2_exitFace_11 ?_
  refine g_aload_n rfl ld_0 13 rfl dX2_exitFace_12 ?_
  refine g_getf (kf := 2) hB.1 rfl rfl in_X2 (by decide) q258 rfl 16 rfl dX2_exitFace_13 ?_
  refine g_iconst (v := 2) (by decide) 17 rfl dX2_exitFace_16 ?_
  refine g_iald (j := 2) (f := g) hB.2.2 (show (2 : Int32) = nI 2 from rfl) (by omega) (by decide) 18 rfl dX2_exitFace_17 ?_
  refine g_imul 19 rfl dX2_exitFace_18 ?_
  refine g_icmp_ne 26 22 rfl (by decide) dX2_exitFace_19 (fun c19 => ?_) (fun c19 => ?_)
  · refine g_iload ld_4 28 rfl dX2_exitFace_26 ?_
    refine g_iconst (v := 3) (by decide) 29 rfl dX2_exitFace_28 ?_
    refine g_aload_n rfl ld_0 30 rfl dX2_exitFace_29 ?_
    refine g_getf (kf := 2) hB.1 rfl rfl in_X2 (by decide) q258 rfl 33 rfl dX2_exitFace_30 ?_
    refine g_iconst (v := 0) (by decide) 34 rfl dX2_exitFace_33 ?_
    refine g_iald (j := 0) (f := g) hB.2.2 (show (0 : Int32) = nI 0 from rfl) (by omega) (by decide) 35 rfl dX2_exitFace_34 ?_
    refine g_iload_n rfl ld_1 36 rfl dX2_exitFace_35 ?_
    refine g_isub 37 rfl dX2_exitFace_36 ?_
    refine g_imul 38 rfl dX2_exitFace_37 ?_
    refine g_iconst (v := 1) (by decide) 39 rfl dX2_exitFace_38 ?_
    refine g_isub 40 rfl dX2_exitFace_39 ?_
    refine g_iload_n rfl ld_3 41 rfl dX2_exitFace_40 ?_
    refine g_isub 42 rfl dX2_exitFace_41 ?_
    refine g_icmp_ne 49 45 rfl (by decide) dX2_exitFace_42 (fun c42 => ?_) (fun c42 => ?_)
    · refine g_iconst (v := 1) (by decide) 50 rfl dX2_exitFace_49 ?_
      exact g_iret hR rfl (Nat.le_of_ble_eq_true rfl) (Nat.le_of_ble_eq_true rfl) ⟨congrArg (fun p => some (Value.int p)) (show (1 : Int32) = xfB g u v s from by unfold xfB; rw [if_neg c19, if_neg c42]), rfl⟩ dX2_exitFace_50
    · refine g_iconst (v := 0) (by decide) 46 rfl dX2_exitFace_45 ?_
      refine g_goto 50 (by decide) dX2_exitFace_46 ?_
      exact g_iret hR rfl (Nat.le_of_ble_eq_true rfl) (Nat.le_of_ble_eq_true rfl) ⟨congrArg (fun p => some (Value.int p)) (show (0 : Int32) = xfB g u v s from by unfold xfB; rw [if_neg c19, if_pos c42]), rfl⟩ dX2_exitFace_50
  · refine g_iconst (v := 2) (by decide) 23 rfl dX2_exitFace_22 ?_
    refine g_goto 50 (by decide) dX2_exitFace_23 ?_
    exact g_iret hR rfl (Nat.le_of_ble_eq_true rfl) (Nat.le_of_ble_eq_true rfl) ⟨congrArg (fun p => some (Value.int p)) (show (2 : Int32) = xfB g u v s from by unfold xfB; rw [if_pos c19]), rfl⟩ dX2_exitFace_50
def rX2_touchingAxis : Room := { frames := 2, cells := 0, slots := 0, locals := 34 }
theorem k_X2_touchingAxis : CV yX2_touchingAxis cX2_touchingAxis 4 (some .int) 1 := ⟨q448, q449, q82, q450, by decide +kernel, by decide +kernel, by decide +kernel⟩
set_option maxHeartbeats 400000 in
theorem c_X2_touchingAxis (l : Launch) (D : DD) (b : Nat) {σ : Hp} {q lo hi : Nat} {n : Int32} {f g : Nat → Int32} (hB : BxA D σ q lo hi n f g) {q' lo' hi' : Nat} {n' : Int32} {f' g' : Nat → Int32} (hB' : BxA D σ q' lo' hi' n' f' g') : CM l yX2_touchingAxis cX2_touchingAxis 4 (some .int) rX2_touchingAxis D b [.ref q, .ref q'] σ (PIx (taB f g f' g') σ) := by
  refine CM_of [some (.ref q), some (.ref q'), none, none] RX2 (by decide) rfl (cat_all rfl) (Nat.le_of_ble_eq_true rfl) rfl ?_
  intro z hz hR hnm
  refine g_iconst (v := 0) (by decide) 1 rfl dX2_touchingAxis_0 ?_
  refine g_istore_n rfl sa_2 2 rfl dX2_touchingAxis_1 ?_
  have lp2 : ∀ (fu i : Nat), i ≤ 3 → 3 + 1 ≤ i + fu → (taB f g f' g' = ff (tiB f g f' g') (-106) 3 i) → G z cX2_touchingAxis RX2 4 rX2_touchingAxis D b σ 0 0 2 [some (.ref q), some (.ref q'), some (.int (nI i)), none] [] := by
    intro fu
    induction fu with
    | zero => intros; omega
    | succ fu ih2 =>
      intro i  hi hf hx
      refine g_iload_n rfl ld_2 3 rfl dX2_touchingAxis_2 ?_
      refine g_iconst (v := 3) (by decide) 4 rfl dX2_touchingAxis_3 ?_
      refine g_icmp_geN (a := i) (c := 3) rfl (show (3 : Int32) = nI 3 from rfl) (by omega) (by omega) 81 7 rfl (by decide) dX2_touchingAxis_4 (fun c4 => ?_) (fun c4 => ?_)
      · refine g_bipush (v := -106) (by decide) 83 rfl dX2_touchingAxis_81 ?_
        exact g_iret hR rfl (Nat.le_of_ble_eq_true rfl) (Nat.le_of_ble_eq_true rfl) ⟨congrArg (fun p => some (Value.int p)) (hx.trans (ff_end (by omega))).symm, rfl⟩ dX2_touchingAxis_83
      · refine g_aload_n rfl ld_0 8 rfl dX2_touchingAxis_7 ?_
        refine g_getf (kf := 2) hB.1 rfl rfl in_X2 (by decide) q258 rfl 11 rfl dX2_touchingAxis_8 ?_
        refine g_iload_n rfl ld_2 12 rfl dX2_touchingAxis_11 ?_
        refine g_iald (j := i) (f := g) hB.2.2 rfl (by omega) (by decide) 13 rfl dX2_touchingAxis_12 ?_
        refine g_aload_n rfl ld_1 14 rfl dX2_touchingAxis_13 ?_
        refine g_getf (kf := 1) hB'.1 rfl rfl in_X2 (by decide) q256 rfl 17 rfl dX2_touchingAxis_14 ?_
        refine g_iload_n rfl ld_2 18 rfl dX2_touchingAxis_17 ?_
        refine g_iald (j := i) (f := f') hB'.2.1 rfl (by omega) (by decide) 19 rfl dX2_touchingAxis_18 ?_
        refine g_icmp_eq 37 22 rfl (by decide) dX2_touchingAxis_19 (fun c19 => ?_) (fun c19 => ?_)
        · refine g_iconst (v := 1) (by decide) 38 rfl dX2_touchingAxis_37 ?_
          refine g_goto 42 (by decide) dX2_touchingAxis_38 ?_
          refine g_istore_n rfl sa_3 43 rfl dX2_touchingAxis_42 ?_
          refine g_iload_n rfl ld_3 44 rfl dX2_touchingAxis_43 ?_
          refine g_if_eq 75 47 rfl (by decide) dX2_touchingAxis_44 (fun cz => absurd cz (by decide)) (fun cz => ?_)
          refine g_aload_n rfl ld_0 48 rfl dX2_touchingAxis_47 ?_
          refine g_aload_n rfl ld_1 49 rfl dX2_touchingAxis_48 ?_
          refine g_iload_n rfl ld_2 50 rfl dX2_touchingAxis_49 ?_
          refine g_iconst (v := 1) (by decide) 51 rfl dX2_touchingAxis_50 ?_
          refine g_iaddN (a := i) (c := 1) rfl (show (1 : Int32) = nI 1 from rfl) 52 rfl dX2_touchingAxis_51 ?_
          refine g_iconst (v := 3) (by decide) 53 rfl dX2_touchingAxis_52 ?_
          refine g_iremN (a := (i + 1)) (c := 3) rfl (show (3 : Int32) = nI 3 from rfl) (by omega) (by omega) (by omega) 54 rfl dX2_touchingAxis_53 ?_
          refine g_callV (As := [.ref q', .int (nI ((i + 1) % 3))]) (rest := []) (ci := 2) (c_X2_overlapsOn z.l D b hB hB' ((i + 1) % 3) (by omega)) k_X2_overlapsOn q283 hB.1 rfl rfl rfl rfl (Nat.le_of_ble_eq_true rfl) ⟨Nat.le_of_ble_eq_true rfl, Nat.le_of_ble_eq_true rfl⟩ 0 0 (Nat.le_of_ble_eq_true rfl) (Nat.le_of_ble_eq_true rfl) (Nat.le_of_ble_eq_true rfl) (Nat.le_of_ble_eq_true rfl) 57 rfl dX2_touchingAxis_54 (fun v σ1 hq => ?_)
          obtain ⟨rfl, rfl⟩ := hq
          refine g_if_eqB 75 60 rfl (by decide) dX2_touchingAxis_57 (fun c57 => ?_) (fun c57 => ?_)
          · refine g_iinc (v := nI (i + 1)) ld_2 (nI_1 _) sa_2 78 rfl dX2_touchingAxis_75 ?_
            refine g_goto 2 (by decide) dX2_touchingAxis_78 ?_
            refine G_lv dr_3 ?_
            exact ih2 (i + 1) (by omega) (by omega) (hx.trans (ff_miss (by omega) (by unfold tiB; simp [*])))
          · refine g_aload_n rfl ld_0 61 rfl dX2_touchingAxis_60 ?_
            refine g_aload_n rfl ld_1 62 rfl dX2_touchingAxis_61 ?_
            refine g_iload_n rfl ld_2 63 rfl dX2_touchingAxis_62 ?_
            refine g_iconst (v := 2) (by decide) 64 rfl dX2_touchingAxis_63 ?_
            refine g_iaddN (a := i) (c := 2) rfl (show (2 : Int32) = nI 2 from rfl) 65 rfl dX2_touchingAxis_64 ?_
            refine g_iconst (v := 3) (by decide) 66 rfl dX2_touchingAxis_65 ?_
            refine g_iremN (a := (i + 2)) (c := 3) rfl (show (3 : Int32) = nI 3 from rfl) (by omega) (by omega) (by omega) 67 rfl dX2_touchingAxis_66 ?_
            refine g_callV (As := [.ref q', .int (nI ((i + 2) % 3))]) (rest := []) (ci := 2) (c_X2_overlapsOn z.l D b hB hB' ((i + 2) % 3) (by omega)) k_X2_overlapsOn q283 hB.1 rfl rfl rfl rfl (Nat.le_of_ble_eq_true rfl) ⟨Nat.le_of_ble_eq_true rfl, Nat.le_of_ble_eq_true rfl⟩ 0 0 (Nat.le_of_ble_eq_true rfl) (Nat.le_of_ble_eq_true rfl) (Nat.le_of_ble_eq_true rfl) (Nat.le_of_ble_eq_true rfl) 70 rfl dX2_touchingAxis_67 (fun v σ1 hq => ?_)
            obtain ⟨rfl, rfl⟩ := hq
            refine g_if_eqB 75 73 rfl (by decide) dX2_touchingAxis_70 (fun c70 => ?_) (fun c70 => ?_)
            · refine g_iinc (v := nI (i + 1)) ld_2 (nI_1 _) sa_2 78 rfl dX2_touchingAxis_75 ?_
              refine g_goto 2 (by decide) dX2_touchingAxis_78 ?_
              refine G_lv dr_3 ?_
              exact ih2 (i + 1) (by omega) (by omega) (hx.trans (ff_miss (by omega) (by unfold tiB; simp [*])))
            · refine g_iload_n rfl ld_2 74 rfl dX2_touchingAxis_73 ?_
              exact g_iret hR rfl (Nat.le_of_ble_eq_true rfl) (Nat.le_of_ble_eq_true rfl) ⟨congrArg (fun p => some (Value.int p)) (hx.trans (ff_hit (by omega) (by unfold tiB; simp [*]))).symm, rfl⟩ dX2_touchingAxis_74
        · refine g_aload_n rfl ld_1 23 rfl dX2_touchingAxis_22 ?_
          refine g_getf (kf := 2) hB'.1 rfl rfl in_X2 (by decide) q258 rfl 26 rfl dX2_touchingAxis_23 ?_
          refine g_iload_n rfl ld_2 27 rfl dX2_touchingAxis_26 ?_
          refine g_iald (j := i) (f := g') hB'.2.2 rfl (by omega) (by decide) 28 rfl dX2_touchingAxis_27 ?_
          refine g_aload_n rfl ld_0 29 rfl dX2_touchingAxis_28 ?_
          refine g_getf (kf := 1) hB.1 rfl rfl in_X2 (by decide) q256 rfl 32 rfl dX2_touchingAxis_29 ?_
          refine g_iload_n rfl ld_2 33 rfl dX2_touchingAxis_32 ?_
          refine g_iald (j := i) (f := f) hB.2.1 rfl (by omega) (by decide) 34 rfl dX2_touchingAxis_33 ?_
          refine g_icmp_ne 41 37 rfl (by decide) dX2_touchingAxis_34 (fun c34 => ?_) (fun c34 => ?_)
          · refine g_iconst (v := 0) (by decide) 42 rfl dX2_touchingAxis_41 ?_
            refine g_istore_n rfl sa_3 43 rfl dX2_touchingAxis_42 ?_
            refine g_iload_n rfl ld_3 44 rfl dX2_touchingAxis_43 ?_
            refine g_if_eq 75 47 rfl (by decide) dX2_touchingAxis_44 (fun cz => ?_) (fun cz => absurd cz (by decide))
            refine g_iinc (v := nI (i + 1)) ld_2 (nI_1 _) sa_2 78 rfl dX2_touchingAxis_75 ?_
            refine g_goto 2 (by decide) dX2_touchingAxis_78 ?_
            refine G_lv dr_3 ?_
            exact ih2 (i + 1) (by omega) (by omega) (hx.trans (ff_miss (by omega) (by unfold tiB; simp [*])))
          · refine g_iconst (v := 1) (by decide) 38 rfl dX2_touchingAxis_37 ?_
            refine g_goto 42 (by decide) dX2_touchingAxis_38 ?_
            refine g_istore_n rfl sa_3 43 rfl dX2_touchingAxis_42 ?_
            refine g_iload_n rfl ld_3 44 rfl dX2_touchingAxis_43 ?_
            refine g_if_eq 75 47 rfl (by decide) dX2_touchingAxis_44 (fun cz => absurd cz (by decide)) (fun cz => ?_)
            refine g_aload_n rfl ld_0 48 rfl dX2_touchingAxis_47 ?_
            refine g_aload_n rfl ld_1 49 rfl dX2_touchingAxis_48 ?_
            refine g_iload_n rfl ld_2 50 rfl dX2_touchingAxis_49 ?_
            refine g_iconst (v := 1) (by decide) 51 rfl dX2_touchingAxis_50 ?_
            refine g_iaddN (a := i) (c := 1) rfl (show (1 : Int32) = nI 1 from rfl) 52 rfl dX2_touchingAxis_51 ?_
            refine g_iconst (v := 3) (by decide) 53 rfl dX2_touchingAxis_52 ?_
            refine g_iremN (a := (i + 1)) (c := 3) rfl (show (3 : Int32) = nI 3 from rfl) (by omega) (by omega) (by omega) 54 rfl dX2_touchingAxis_53 ?_
            refine g_callV (As := [.ref q', .int (nI ((i + 1) % 3))]) (rest := []) (ci := 2) (c_X2_overlapsOn z.l D b hB hB' ((i + 1) % 3) (by omega)) k_X2_overlapsOn q283 hB.1 rfl rfl rfl rfl (Nat.le_of_ble_eq_true rfl) ⟨Nat.le_of_ble_eq_true rfl, Nat.le_of_ble_eq_true rfl⟩ 0 0 (Nat.le_of_ble_eq_true rfl) (Nat.le_of_ble_eq_true rfl) (Nat.le_of_ble_eq_true rfl) (Nat.le_of_ble_eq_true rfl) 57 rfl dX2_touchingAxis_54 (fun v σ1 hq => ?_)
            obtain ⟨rfl, rfl⟩ := hq
            refine g_if_eqB 75 60 rfl (by decide) dX2_touchingAxis_57 (fun c57 => ?_) (fun c57 => ?_)
            · refine g_iinc (v := nI (i + 1)) ld_2 (nI_1 _) sa_2 78 rfl dX2_touchingAxis_75 ?_
              refine g_goto 2 (by decide) dX2_touchingAxis_78 ?_
              refine G_lv dr_3 ?_
              exact ih2 (i + 1) (by omega) (by omega) (hx.trans (ff_miss (by omega) (by unfold tiB; simp [*])))
            · refine g_aload_n rfl ld_0 61 rfl dX2_touchingAxis_60 ?_
              refine g_aload_n rfl ld_1 62 rfl dX2_touchingAxis_61 ?_
              refine g_iload_n rfl ld_2 63 rfl dX2_touchingAxis_62 ?_
              refine g_iconst (v := 2) (by decide) 64 rfl dX2_touchingAxis_63 ?_
              refine g_iaddN (a := i) (c := 2) rfl (show (2 : Int32) = nI 2 from rfl) 65 rfl dX2_touchingAxis_64 ?_
              refine g_iconst (v := 3) (by decide) 66 rfl dX2_touchingAxis_65 ?_
              refine g_iremN (a := (i + 2)) (c := 3) rfl (show (3 : Int32) = nI 3 from rfl) (by omega) (by omega) (by omega) 67 rfl dX2_touchingAxis_66 ?_
              refine g_callV (As := [.ref q', .int (nI ((i + 2) % 3))]) (rest := []) (ci := 2) (c_X2_overlapsOn z.l D b hB hB' ((i + 2) % 3) (by omega)) k_X2_overlapsOn q283 hB.1 rfl rfl rfl rfl (Nat.le_of_ble_eq_true rfl) ⟨Nat.le_of_ble_eq_true rfl, Nat.le_of_ble_eq_true rfl⟩ 0 0 (Nat.le_of_ble_eq_true rfl) (Nat.le_of_ble_eq_true rfl) (Nat.le_of_ble_eq_true rfl) (Nat.le_of_ble_eq_true rfl) 70 rfl dX2_touchingAxis_67 (fun v σ1 hq => ?_)
              obtain ⟨rfl, rfl⟩ := hq
              refine g_if_eqB 75 73 rfl (by decide) dX2_touchingAxis_70 (fun c70 => ?_) (fun c70 => ?_)
              · refine g_iinc (v := nI (i + 1)) ld_2 (nI_1 _) sa_2 78 rfl dX2_touchingAxis_75 ?_
                refine g_goto 2 (by decide) dX2_touchingAxis_78 ?_
                refine G_lv dr_3 ?_
                exact ih2 (i + 1) (by omega) (by omega) (hx.trans (ff_miss (by omega) (by unfold tiB; simp [*])))
              · refine g_iload_n rfl ld_2 74 rfl dX2_touchingAxis_73 ?_
                exact g_iret hR rfl (Nat.le_of_ble_eq_true rfl) (Nat.le_of_ble_eq_true rfl) ⟨congrArg (fun p => some (Value.int p)) (hx.trans (ff_hit (by omega) (by unfold tiB; simp [*]))).symm, rfl⟩ dX2_touchingAxis_74
  exact lp2 (3 + 1) 0 (by omega) (by omega) (rfl)
