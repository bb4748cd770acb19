/-! THE REFERENCE, part 13: seen, face, through, area -/
set_option maxRecDepth 100000
def sameF (ks : List Nat) (F F' : Nat → Int32) : Prop := ∀ k, k ∉ ks → F' k = F k
theorem sF_refl (ks : List Nat) (F : Nat → Int32) : sameF ks F F := fun _ _ => rfl
theorem sF_upd {ks : List Nat} {F F' : Nat → Int32} (H : sameF ks F F') {k : Nat} (hk : k ∈ ks) (v : Int32) : sameF ks F (upd F' k v) := fun j hj => (upd_n (fun e => hj (by rw [e]; exact hk))).trans (H j hj)
def sameA (ks : List Nat) (A A' : Nat → Nat → Int32) : Prop := ∀ k, k ∉ ks → A' k = A k
theorem sA_refl (ks : List Nat) (A : Nat → Nat → Int32) : sameA ks A A := fun _ _ => rfl
theorem sA_upd {ks : List Nat} {A A' : Nat → Nat → Int32} (H : sameA ks A A') {k : Nat} (hk : k ∈ ks) (v : Nat → Int32) : sameA ks A (uA A' k v) := fun j hj => (uA_n (fun e => hj (by rw [e]; exact hk))).trans (H j hj)
def seenR (w : Nat → Int32) (u v s : Int32) : Int32 := if ptR u v s = true then oM (lkN w u v s 12).1 else -102
def faceR (w : Nat → Int32) (u v s : Int32) : Int32 := if ptR u v s = false then -102 else if (lkN w u v s 12).1 = 12 then -106 else nI (sfR w (7 * (lkN w u v s 12).1) u v s)
def bsN (w : Nat → Int32) (u v s bf : Int32) : Nat → Nat × Int32
  | 0 => (12, -1000)
  | k + 1 => if (isBx w (nI k) && hitR w (7 * k) u v s && decide (farR w (7 * k) u v s < bf) && decide ((bsN w u v s bf k).2 < farR w (7 * k) u v s)) = true then (k, farR w (7 * k) u v s) else bsN w u v s bf k
theorem bs_le (w : Nat → Int32) (u v s bf : Int32) : ∀ k, (bsN w u v s bf k).1 = 12 ∨ (bsN w u v s bf k).1 < k
  | 0 => Or.inl rfl
  | k + 1 => by
    have := bs_le w u v s bf k
    rw [bsN]
    split
    · exact Or.inr (Nat.lt_succ_self k)
    · exact this.imp id (fun h => Nat.lt_succ_of_lt h)
theorem bs_le12 (w : Nat → Int32) (u v s bf : Int32) : (bsN w u v s bf 12).1 ≤ 12 := by
  have := bs_le w u v s bf 12; omega
def thN (w : Nat → Int32) (u v s : Int32) : Nat → Int32 → Nat
  | 0, bf => (bsN w u v s bf 12).1
  | n + 1, bf => if (bsN w u v s bf 12).1 = 12 then 12 else thN w u v s n (bsN w u v s bf 12).2
def throughR (w : Nat → Int32) (u v s m : Int32) : Int32 := if (ptR u v s && decide (0 ≤ m)) = true then oM (thN w u v s m.toNatClampNeg 1000) else -102
def U (a : Nat) : Int32 := nI a - 32
theorem U_0 : (-32 : Int32) = U 0 := by decide
theorem U_s : ∀ a, a < 64 → U a + 1 = U (a + 1) := by decide
theorem U_lt : ∀ a, a ≤ 64 → (U a < 32 ↔ a < 64) := by decide
def e2R (w : Nat → Int32) (j a b : Nat) : Int32 := bI (hitR w (7 * j) (U a) (U b) 0) + bI (hitR w (7 * j) (U a) (U b) 1)
def areaN (w : Nat → Int32) (j : Nat) : Int32 := sm (fun a => sm (e2R w j a) 64) 64
def areaR (w : Nat → Int32) (v : Int32) : Int32 := if isBx w v = true then areaN w v.toNatClampNeg else -101
def rX1_seen : Room := { frames := 4, cells := 0, slots := 0, locals := 81 }
theorem k_X1_seen : CV yX1_seen cX1_seen 4 (some .int) 3 := ⟨q1936, q1937, q81, q1938, by decide +kernel, by decide +kernel, by decide +kernel⟩
set_option maxHeartbeats 400000 in
theorem c_X1_seen (l : Launch) (D : DD) (b : Nat) {h : Nat} {ad : Nat → Nat} {σ0 : Hp} {F : Nat → Int32} {A : Nat → Nat → Int32} {σ : Hp} (hM : MW D h ad σ0 F A σ) (u v s : Int32) : CM l yX1_seen cX1_seen 4 (some .int) rX1_seen D b [.ref h, .int u, .int v, .int s] σ (PI (fun r σ' => r = seenR (A 0) u v s ∧ ∃ F', sameF [17, 18, 19, 20] F F' ∧ MW D h ad σ0 F' A σ')) := by
  refine CM_of [some (.ref h), some (.int u), some (.int v), some (.int s)] RX1 (by decide) rfl (cat_all rfl) (Nat.le_of_ble_eq_true rfl) rfl ?_
  intro z hz hR hnm
  refine g_iload_n rfl ld_1 1 rfl dX1_seen_0 ?_
  refine g_iload_n rfl ld_2 2 rfl dX1_seen_1 ?_
  refine g_iload_n rfl ld_3 3 rfl dX1_seen_2 ?_
  refine g_callS (As := [.int u, .int v, .int s]) (rest := []) (c_X1_isPoint z.l D b (σ := σ) u v s) k_X1_isPoint q1928 rfl rfl (Nat.le_of_ble_eq_true rfl) ⟨Nat.le_of_ble_eq_true rfl, Nat.le_of_ble_eq_true rfl⟩ 0 0 (Nat.le_of_ble_eq_true rfl) (Nat.le_of_ble_eq_true rfl) (Nat.le_of_ble_eq_true rfl) (Nat.le_of_ble_eq_true rfl) 6 rfl dX1_seen_3 (fun v σ1 hq => ?_)
  obtain ⟨rfl, rfl⟩ := hq
  refine g_if_eqB 19 9 rfl (by decide) dX1_seen_6 (fun c6 => ?_) (fun c6 => ?_)
  · refine g_bipush (v := -102) (by decide) 21 rfl dX1_seen_19 ?_
    exact g_iret hR rfl (Nat.le_of_ble_eq_true rfl) (Nat.le_of_ble_eq_true rfl) ⟨_, rfl, by simp [seenR, *], _, (sF_refl _ _), hM⟩ dX1_seen_21
  · refine g_aload_n rfl ld_0 10 rfl dX1_seen_9 ?_
    refine g_iload_n rfl ld_1 11 rfl dX1_seen_10 ?_
    refine g_iload_n rfl ld_2 12 rfl dX1_seen_11 ?_
    refine g_iload_n rfl ld_3 13 rfl dX1_seen_12 ?_
    refine g_callV (As := [.int u, .int v, .int s]) (rest := []) (ci := 1) (v_X1_look z.l D b hM (w0 := A 0) rfl u v s) k_X1_look q1939 hM.1 rfl rfl rfl rfl (Nat.le_of_ble_eq_true rfl) ⟨Nat.le_of_ble_eq_true rfl, Nat.le_of_ble_eq_true rfl⟩ 0 0 (Nat.le_of_ble_eq_true rfl) (Nat.le_of_ble_eq_true rfl) (Nat.le_of_ble_eq_true rfl) (Nat.le_of_ble_eq_true rfl) 16 rfl dX1_seen_13 (fun v σ1 hq => ?_)
    obtain ⟨_, rfl, f17, f18, rfl, hM⟩ := hq
    revert σ1
    intro σ hM
    refine g_goto 21 (by decide) dX1_seen_16 ?_
    exact g_iret hR rfl (Nat.le_of_ble_eq_true rfl) (Nat.le_of_ble_eq_true rfl) ⟨_, rfl, by simp [seenR, *], _, (sF_upd (sF_upd (sF_upd (sF_upd (sF_refl _ _) (by decide) _) (by decide) _) (by decide) _) (by decide) _), hM⟩ dX1_seen_21
theorem v_X1_seen (l : Launch) (D : DD) (b : Nat) {h : Nat} {ad : Nat → Nat} {σ0 : Hp} {F : Nat → Int32} {A : Nat → Nat → Int32} {σ : Hp} (hM : MW D h ad σ0 F A σ) {w0 : Nat → Int32} (hw0 : A 0 = w0) (u v s : Int32) : CM l yX1_seen cX1_seen 4 (some .int) rX1_seen D b [.ref h, .int u, .int v, .int s] σ (PI (fun r σ' => r = seenR (w0) u v s ∧ ∃ F', sameF [17, 18, 19, 20] F F' ∧ MW D h ad σ0 F' A σ')) := by
  subst hw0
  exact c_X1_seen l D b hM u v s
def rX1_face : Room := { frames := 4, cells := 0, slots := 0, locals := 81 }
theorem k_X1_face : CV yX1_face cX1_face 4 (some .int) 3 := ⟨q1944, q1945, q81, q1946, by decide +kernel, by decide +kernel, by decide +kernel⟩
set_option maxHeartbeats 400000 in
theorem c_X1_face (l : Launch) (D : DD) (b : Nat) {h : Nat} {ad : Nat → Nat} {σ0 : Hp} {F : Nat → Int32} {A : Nat → Nat → Int32} {σ : Hp} (hM : MW D h ad σ0 F A σ) (u v s : Int32) : CM l yX1_face cX1_face 4 (some .int) rX1_face D b [.ref h, .int u, .int v, .int s] σ (PI (fun r σ' => r = faceR (A 0) u v s ∧ ∃ F', sameF [17, 18, 19, 20] F F' ∧ MW D h ad σ0 F' A σ')) := by
  refine CM_of [some (.ref h), some (.int u), some (.int v), some (.int s)] RX1 (by decide) rfl (cat_all rfl) (Nat.le_of_ble_eq_true rfl) rfl ?_
  intro z hz hR hnm
  refine g_iload_n rfl ld_1 1 rfl dX1_face_0 ?_
  refine g_iload_n rfl ld_2 2 rfl dX1_face_1 ?_
  refine g_iload_n rfl ld_3 3 rfl dX1_face_2 ?_
  refine g_callS (As := [.int u, .int v, .int s]) (rest := []) (c_X1_isPoint z.l D b (σ := σ) u v s) k_X1_isPoint q1928 rfl rfl (Nat.le_of_ble_eq_true rfl) ⟨Nat.le_of_ble_eq_true rfl, Nat.le_of_ble_eq_true rfl⟩ 0 0 (Nat.le_of_ble_eq_true rfl) (Nat.le_of_ble_eq_true rfl) (Nat.le_of_ble_eq_true rfl) (Nat.le_of_ble_eq_true rfl) 6 rfl dX1_face_3 (fun v σ1 hq => ?_)
  obtain ⟨rfl, rfl⟩ := hq
  refine g_if_neB 12 9 rfl (by decide) dX1_face_6 (fun c6 => ?_) (fun c6 => ?_)
  · refine g_aload_n rfl ld_0 13 rfl dX1_face_12 ?_
    refine g_iload_n rfl ld_1 14 rfl dX1_face_13 ?_
    refine g_iload_n rfl ld_2 15 rfl dX1_face_14 ?_
    refine g_iload_n rfl ld_3 16 rfl dX1_face_15 ?_
    refine g_callV (As := [.int u, .int v, .int s]) (rest := []) (ci := 1) (v_X1_look z.l D b hM (w0 := A 0) rfl u v s) k_X1_look q1939 hM.1 rfl rfl rfl rfl (Nat.le_of_ble_eq_true rfl) ⟨Nat.le_of_ble_eq_true rfl, Nat.le_of_ble_eq_true rfl⟩ 0 0 (Nat.le_of_ble_eq_true rfl) (Nat.le_of_ble_eq_true rfl) (Nat.le_of_ble_eq_true rfl) (Nat.le_of_ble_eq_true rfl) 19 rfl dX1_face_16 (fun v σ1 hq => ?_)
    obtain ⟨_, rfl, f17, f18, rfl, hM⟩ := hq
    revert σ1
    intro σ hM
    refine g_bipush (v := -106) (by decide) 21 rfl dX1_face_19 ?_
    refine g_icmp_ne 29 24 rfl (by decide) dX1_face_21 (fun c21 => ?_) (fun c21 => ?_)
    · refine g_aload_n rfl ld_0 30 rfl dX1_face_29 ?_
      have g9 : (upd (upd (upd (upd F 20 ((lkN (A 0) u v s 12).2.2)) 17 f17) 18 f18) 19 (fc19 (A 0) u v s (lkN (A 0) u v s 12).1 (F 19))) 19 = fc19 (A 0) u v s (lkN (A 0) u v s 12).1 (F 19) := (upd_s _ _ _)
      refine g_getf (kf := 19) (v := .int (fc19 (A 0) u v s (lkN (A 0) u v s 12).1 (F 19))) hM.1 (mfs_get (by decide) g9) rfl in_X1 (by decide) q1680 rfl 33 rfl dX1_face_30 ?_
      have hlk := lk_le12 (A 0) u v s (k := 12) (by omega)
      exact g_iret hR rfl (Nat.le_of_ble_eq_true rfl) (Nat.le_of_ble_eq_true rfl) ⟨_, rfl, by rw [faceR, if_neg (by simp [c6]), if_neg (fun e => c21 ((oM_eq hlk).2 e)), fc19, if_neg (fun e => c21 ((oM_eq hlk).2 e))], _, (sF_upd (sF_upd (sF_upd (sF_upd (sF_refl _ _) (by decide) _) (by decide) _) (by decide) _) (by decide) _), hM⟩ dX1_face_33
    · refine g_bipush (v := -106) (by decide) 26 rfl dX1_face_24 ?_
      refine g_goto 33 (by decide) dX1_face_26 ?_
      have hlk := lk_le12 (A 0) u v s (k := 12) (by omega)
      exact g_iret hR rfl (Nat.le_of_ble_eq_true rfl) (Nat.le_of_ble_eq_true rfl) ⟨_, rfl, by rw [faceR, if_neg (by simp [c6]), if_pos ((oM_eq hlk).1 c21)], _, (sF_upd (sF_upd (sF_upd (sF_upd (sF_refl _ _) (by decide) _) (by decide) _) (by decide) _) (by decide) _), hM⟩ dX1_face_33
  · refine g_bipush (v := -102) (by decide) 11 rfl dX1_face_9 ?_
    exact g_iret hR rfl (Nat.le_of_ble_eq_true rfl) (Nat.le_of_ble_eq_true rfl) ⟨_, rfl, by rw [faceR, if_pos c6], _, (sF_refl _ _), hM⟩ dX1_face_11
theorem v_X1_face (l : Launch) (D : DD) (b : Nat) {h : Nat} {ad : Nat → Nat} {σ0 : Hp} {F : Nat → Int32} {A : Nat → Nat → Int32} {σ : Hp} (hM : MW D h ad σ0 F A σ) {w0 : Nat → Int32} (hw0 : A 0 = w0) (u v s : Int32) : CM l yX1_face cX1_face 4 (some .int) rX1_face D b [.ref h, .int u, .int v, .int s] σ (PI (fun r σ' => r = faceR (w0) u v s ∧ ∃ F', sameF [17, 18, 19, 20] F F' ∧ MW D h ad σ0 F' A σ')) := by
  subst hw0
  exact c_X1_face l D b hM u v s
def rX1_through : Room := { frames := 3, cells := 0, slots := 0, locals := 56 }
theorem k_X1_through : CV yX1_through cX1_through 10 (some .int) 4 := ⟨q1948, q1949, q81, q1950, by decide +kernel, by decide +kernel, by decide +kernel⟩
set_option maxHeartbeats 2000000 in
theorem c_X1_through (l : Launch) (D : DD) (b : Nat) {h : Nat} {ad : Nat → Nat} {σ0 : Hp} {F : Nat → Int32} {A : Nat → Nat → Int32} {σ : Hp} (hM : MW D h ad σ0 F A σ) (u v s m : Int32) : CM l yX1_through cX1_through 10 (some .int) rX1_through D b [.ref h, .int u, .int v, .int s, .int m] σ (PI (fun r σ' => r = throughR (A 0) u v s m ∧ ∃ F', sameF [17, 18, 19, 20] F F' ∧ MW D h ad σ0 F' A σ')) := by
  refine CM_of [some (.ref h), some (.int u), some (.int v), some (.int s), some (.int m), none, none, none, none, none] RX1 (by decide) rfl (cat_all rfl) (Nat.le_of_ble_eq_true rfl) rfl ?_
  intro z hz hR hnm
  refine g_iload_n rfl ld_1 1 rfl dX1_through_0 ?_
  refine g_iload_n rfl ld_2 2 rfl dX1_through_1 ?_
  refine g_iload_n rfl ld_3 3 rfl dX1_through_2 ?_
  refine g_callS (As := [.int u, .int v, .int s]) (rest := []) (c_X1_isPoint z.l D b (σ := σ) u v s) k_X1_isPoint q1928 rfl rfl (Nat.le_of_ble_eq_true rfl) ⟨Nat.le_of_ble_eq_true rfl, Nat.le_of_ble_eq_true rfl⟩ 0 0 (Nat.le_of_ble_eq_true rfl) (Nat.le_of_ble_eq_true rfl) (Nat.le_of_ble_eq_true rfl) (Nat.le_of_ble_eq_true rfl) 6 rfl dX1_through_3 (fun v σ1 hq => ?_)
  obtain ⟨rfl, rfl⟩ := hq
  refine g_if_eqB 14 9 rfl (by decide) dX1_through_6 (fun c6 => ?_) (fun c6 => ?_)
  · refine g_bipush (v := -102) (by decide) 16 rfl dX1_through_14 ?_
    exact g_iret hR rfl (Nat.le_of_ble_eq_true rfl) (Nat.le_of_ble_eq_true rfl) ⟨_, rfl, by rw [throughR, if_neg (by simp [*])], _, (sF_refl _ _), hM⟩ dX1_through_16
  · refine g_iload ld_4 11 rfl dX1_through_9 ?_
    refine g_if_ge 17 14 rfl (by decide) dX1_through_11 (fun c11 => ?_) (fun c11 => ?_)
    · obtain ⟨mn, hmn, rfl⟩ := nn_nat c11
      refine g_sipush (v := 1000) (by decide) 20 rfl dX1_through_17 ?_
      refine g_istore sa_5 22 rfl dX1_through_20 ?_
      refine g_iconst (v := 0) (by decide) 23 rfl dX1_through_22 ?_
      refine g_istore sa_6 25 rfl dX1_through_23 ?_
      have lp25 : ∀ (fu k : Nat) (g17 g18 : Int32) (bf : Int32) (σ : Hp), k ≤ mn → mn + 1 ≤ k + fu → (thN (A 0) u v s (mn - k) bf = thN (A 0) u v s mn 1000) → MW D h ad σ0 (upd (upd F 17 g17) 18 g18) A σ → G z cX1_through RX1 10 rX1_through D b σ 0 0 25 [some (.ref h), some (.int u), some (.int v), some (.int s), some (.int (nI mn)), some (.int bf), some (.int (nI k)), none, none, none] [] := by
        intro fu
        induction fu with
        | zero => intros; omega
        | succ fu ih25 =>
          intro k g17 g18 bf σ hk hf hth hM
          refine g_iload ld_6 27 rfl dX1_through_25 ?_
          refine g_iload ld_4 29 rfl dX1_through_27 ?_
          refine g_icmp_gtN (a := k) (c := mn) rfl rfl (by omega) (by omega) 140 32 rfl (by decide) dX1_through_29 (fun c29 => ?_) (fun c29 => ?_)
          · refine g_bipush (v := -106) (by decide) 142 rfl dX1_through_140 ?_
            exact absurd c29 (by omega)
          · refine g_bipush (v := -106) (by decide) 34 rfl dX1_through_32 ?_
            refine g_istore sa_7 36 rfl dX1_through_34 ?_
            refine g_sipush (v := -1000) (by decide) 39 rfl dX1_through_36 ?_
            refine g_istore sa_8 41 rfl dX1_through_39 ?_
            refine g_iconst (v := 0) (by decide) 42 rfl dX1_through_41 ?_
            refine g_istore sa_9 44 rfl dX1_through_42 ?_
            have lp44 : ∀ (fu i : Nat) (f17 f18 : Int32) (x7 : Int32) (x8 : Int32) (σ : Hp), i ≤ 12 → 12 + 1 ≤ i + fu → (x7 = oM (bsN (A 0) u v s bf i).1) → (x8 = (bsN (A 0) u v s bf i).2) → MW D h ad σ0 (upd (upd F 17 f17) 18 f18) A σ → G z cX1_through RX1 10 rX1_through D b σ 0 0 44 [some (.ref h), some (.int u), some (.int v), some (.int s), some (.int (nI mn)), some (.int bf), some (.int (nI k)), some (.int x7), some (.int x8), some (.int (nI i))] [] := by
              intro fu
              induction fu with
              | zero => intros; omega
              | succ fu ih44 =>
                intro i f17 f18 x7 x8 σ hi hf hx7 hx8 hM
                refine g_iload ld_9 46 rfl dX1_through_44 ?_
                refine g_bipush (v := 12) (by decide) 48 rfl dX1_through_46 ?_
                refine g_icmp_geN (a := i) (c := 12) rfl (show (12 : Int32) = nI 12 from rfl) (by omega) (by omega) 113 51 rfl (by decide) dX1_through_48 (fun c48 => ?_) (fun c48 => ?_)
                · obtain rfl : i = 12 := by omega
                  refine g_iload ld_7 115 rfl dX1_through_113 ?_
                  refine g_bipush (v := -106) (by decide) 117 rfl dX1_through_115 ?_
                  refine g_icmp_eq 127 120 rfl (by decide) dX1_through_117 (fun c117 => ?_) (fun c117 => ?_)
                  · refine g_iload ld_7 129 rfl dX1_through_127 ?_
                    have hp0 : (ptR u v s && decide ((0 : Int32) ≤ nI mn)) = true := by simp [c6]; rw [← Int32.not_lt]; exact c11
                    have e5 : thN (A 0) u v s (mn - k) bf = (bsN (A 0) u v s bf 12).1 := by
                      rcases Nat.lt_or_ge k mn with hkm | hkm
                      · rw [show mn - k = (mn - (k + 1)) + 1 by omega, thN]; split <;> first | (rename_i e6; exact e6.symm) | (rename_i e6; first | exact absurd ((hx7.symm.trans c117)) (fun e => e6 ((oM_eq (bs_le12 (A 0) u v s bf)).1 e)) | (exact absurd hkm (by omega)))
                      · rw [show mn - k = 0 by omega, thN]
                    exact g_iret hR rfl (Nat.le_of_ble_eq_true rfl) (Nat.le_of_ble_eq_true rfl) ⟨_, rfl, by rw [throughR, if_pos hp0, nI_clamp hmn, ← hth, e5]; exact hx7, _, (sF_upd (sF_upd (sF_refl _ _) (by decide) _) (by decide) _), hM⟩ dX1_through_129
                  · refine g_iload ld_6 122 rfl dX1_through_120 ?_
                    refine g_iload ld_4 124 rfl dX1_through_122 ?_
                    refine g_icmp_neN (a := k) (c := mn) rfl rfl (by omega) (by omega) 130 127 rfl (by decide) dX1_through_124 (fun c124 => ?_) (fun c124 => ?_)
                    · refine g_iload ld_8 132 rfl dX1_through_130 ?_
                      refine g_istore sa_5 134 rfl dX1_through_132 ?_
                      refine g_iinc (v := nI (k + 1)) ld_6 (nI_1 _) sa_6 137 rfl dX1_through_134 ?_
                      refine g_goto 25 (by decide) dX1_through_137 ?_
                      refine G_lv dr_7 ?_
                      refine G_lv dr_8 ?_
                      refine G_lv dr_9 ?_
                      exact ih25 (k + 1) f17 f18 x8 σ (by omega) (by omega) (by rw [← hth, show mn - k = (mn - (k + 1)) + 1 by omega, thN, if_neg (fun e => c117 (hx7.trans ((oM_eq (bs_le12 (A 0) u v s bf)).2 e))), hx8]) hM
                    · refine g_iload ld_7 129 rfl dX1_through_127 ?_
                      have hp0 : (ptR u v s && decide ((0 : Int32) ≤ nI mn)) = true := by simp [c6]; rw [← Int32.not_lt]; exact c11
                      have e5 : thN (A 0) u v s (mn - k) bf = (bsN (A 0) u v s bf 12).1 := by
                        rcases Nat.lt_or_ge k mn with hkm | hkm
                        · rw [show mn - k = (mn - (k + 1)) + 1 by omega, thN]; split <;> first | (rename_i e6; exact e6.symm) | (rename_i e6; first | exact absurd ((hx7.symm.trans c117)) (fun e => e6 ((oM_eq (bs_le12 (A 0) u v s bf)).1 e)) | (exact absurd hkm (by omega)))
                        · rw [show mn - k = 0 by omega, thN]
                      exact g_iret hR rfl (Nat.le_of_ble_eq_true rfl) (Nat.le_of_ble_eq_true rfl) ⟨_, rfl, by rw [throughR, if_pos hp0, nI_clamp hmn, ← hth, e5]; exact hx7, _, (sF_upd (sF_upd (sF_refl _ _) (by decide) _) (by decide) _), hM⟩ dX1_through_129
                · refine g_aload_n rfl ld_0 52 rfl dX1_through_51 ?_
                  refine g_iload ld_9 54 rfl dX1_through_52 ?_
                  refine g_callV (As := [.int (nI i)]) (rest := []) (ci := 1) (v_X1_isBox z.l D b hM (w0 := A 0) rfl (nI i)) k_X1_isBox q1759 hM.1 rfl rfl rfl rfl (Nat.le_of_ble_eq_true rfl) ⟨Nat.le_of_ble_eq_true rfl, Nat.le_of_ble_eq_true rfl⟩ 0 0 (Nat.le_of_ble_eq_true rfl) (Nat.le_of_ble_eq_true rfl) (Nat.le_of_ble_eq_true rfl) (Nat.le_of_ble_eq_true rfl) 57 rfl dX1_through_54 (fun v σ1 hq => ?_)
                  obtain ⟨rfl, rfl⟩ := hq
                  refine g_if_eqB 107 60 rfl (by decide) dX1_through_57 (fun c57 => ?_) (fun c57 => ?_)
                  · have e4 : bsN (A 0) u v s bf (i + 1) = bsN (A 0) u v s bf i := by
                      clear hx7; rw [bsN, if_neg (by rw [← hx8]; clear hx8; simp [*])]
                    refine g_iinc (v := nI (i + 1)) ld_9 (nI_1 _) sa_9 110 rfl dX1_through_107 ?_
                    refine g_goto 44 (by decide) dX1_through_110 ?_
                    exact ih44 (i + 1) f17 f18 x7 x8 σ (by omega) (by omega) (hx7.trans (congrArg (fun p => oM p.1) e4.symm)) (hx8.trans (congrArg (fun p => p.2) e4.symm)) hM
                  · refine g_aload_n rfl ld_0 61 rfl dX1_through_60 ?_
                    refine g_aload_n rfl ld_0 62 rfl dX1_through_61 ?_
                    refine g_getf (kf := 0) (v := .ref (ad 0)) hM.1 rfl rfl in_X1 (by decide) q1661 rfl 65 rfl dX1_through_62 ?_
                    refine g_bipush (v := 7) (by decide) 67 rfl dX1_through_65 ?_
                    refine g_iload ld_9 69 rfl dX1_through_67 ?_
                    refine g_imulN (a := 7) (c := i) (show (7 : Int32) = nI 7 from rfl) rfl 70 rfl dX1_through_69 ?_
                    refine g_iload_n rfl ld_1 71 rfl dX1_through_70 ?_
                    refine g_iload_n rfl ld_2 72 rfl dX1_through_71 ?_
                    refine g_iload_n rfl ld_3 73 rfl dX1_through_72 ?_
                    refine g_callV (As := [.ref (ad 0), .int (nI (7 * i)), .int u, .int v, .int s]) (rest := []) (ci := 1) (c_X1_isMet z.l D b hM 0 84 (7 * i) (A 0) (by omega) rfl (by omega) u v s) k_X1_isMet q1931 hM.1 rfl rfl rfl rfl (Nat.le_of_ble_eq_true rfl) ⟨Nat.le_of_ble_eq_true rfl, Nat.le_of_ble_eq_true rfl⟩ 0 0 (Nat.le_of_ble_eq_true rfl) (Nat.le_of_ble_eq_true rfl) (Nat.le_of_ble_eq_true rfl) (Nat.le_of_ble_eq_true rfl) 76 rfl dX1_through_73 (fun v σ1 hq => ?_)
                    obtain ⟨_, rfl, rfl, hM⟩ := hq
                    revert σ1
                    intro σ hM
                    have hM : MW D h ad σ0 (upd (upd F 18 (nI (sfR (A 0) (7 * i) u v s))) 17 (farR (A 0) (7 * i) u v s)) A σ := by
                      have e9 : upd (upd F 18 (nI (sfR (A 0) (7 * i) u v s))) 17 (farR (A 0) (7 * i) u v s) = upd (upd (upd (upd F 17 f17) 18 f18) 18 (nI (sfR (A 0) (7 * i) u v s))) 17 (farR (A 0) (7 * i) u v s) := by funext x9; by_cases h9_17 : x9 = 17; (subst h9_17; simp [upd_ap]); by_cases h9_18 : x9 = 18; (subst h9_18; simp [upd_ap]); simp [upd_ap, h9_17, h9_18]
                      rw [e9]; exact hM
                    refine g_if_eqB 107 79 rfl (by decide) dX1_through_76 (fun c76 => ?_) (fun c76 => ?_)
                    · have e4 : bsN (A 0) u v s bf (i + 1) = bsN (A 0) u v s bf i := by
                        clear hx7; rw [bsN, if_neg (by rw [← hx8]; clear hx8; simp [*])]
                      refine g_iinc (v := nI (i + 1)) ld_9 (nI_1 _) sa_9 110 rfl dX1_through_107 ?_
                      refine g_goto 44 (by decide) dX1_through_110 ?_
                      have hM : MW D h ad σ0 (upd (upd F 17 ((farR (A 0) (7 * i) u v s))) 18 ((nI (sfR (A 0) (7 * i) u v s)))) A σ := by
                        have e1 : upd (upd F 17 ((farR (A 0) (7 * i) u v s))) 18 ((nI (sfR (A 0) (7 * i) u v s))) = upd (upd F 18 (nI (sfR (A 0) (7 * i) u v s))) 17 (farR (A 0) (7 * i) u v s) := by funext x9; by_cases h9_17 : x9 = 17; (subst h9_17; simp [upd_ap]); by_cases h9_18 : x9 = 18; (subst h9_18; simp [upd_ap]); simp [upd_ap, h9_17, h9_18]
                        rw [e1]; exact hM
                      exact ih44 (i + 1) (farR (A 0) (7 * i) u v s) (nI (sfR (A 0) (7 * i) u v s)) x7 x8 σ (by omega) (by omega) (hx7.trans (congrArg (fun p => oM p.1) e4.symm)) (hx8.trans (congrArg (fun p => p.2) e4.symm)) hM
                    · refine g_aload_n rfl ld_0 80 rfl dX1_through_79 ?_
                      have g9 : (upd (upd F 18 (nI (sfR (A 0) (7 * i) u v s))) 17 (farR (A 0) (7 * i) u v s)) 17 = farR (A 0) (7 * i) u v s := (upd_s _ _ _)
                      refine g_getf (kf := 17) (v := .int (farR (A 0) (7 * i) u v s)) hM.1 (mfs_get (by decide) g9) rfl in_X1 (by decide) q1678 rfl 83 rfl dX1_through_80 ?_
                      refine g_iload ld_5 85 rfl dX1_through_83 ?_
                      refine g_icmp_ge 107 88 rfl (by decide) dX1_through_85 (fun c85 => ?_) (fun c85 => ?_)
                      · have e4 : bsN (A 0) u v s bf (i + 1) = bsN (A 0) u v s bf i := by
                          clear hx7; rw [bsN, if_neg (by rw [← hx8]; clear hx8; simp [*])]
                        refine g_iinc (v := nI (i + 1)) ld_9 (nI_1 _) sa_9 110 rfl dX1_through_107 ?_
                        refine g_goto 44 (by decide) dX1_through_110 ?_
                        have hM : MW D h ad σ0 (upd (upd F 17 ((farR (A 0) (7 * i) u v s))) 18 ((nI (sfR (A 0) (7 * i) u v s)))) A σ := by
                          have e1 : upd (upd F 17 ((farR (A 0) (7 * i) u v s))) 18 ((nI (sfR (A 0) (7 * i) u v s))) = upd (upd F 18 (nI (sfR (A 0) (7 * i) u v s))) 17 (farR (A 0) (7 * i) u v s) := by funext x9; by_cases h9_17 : x9 = 17; (subst h9_17; simp [upd_ap]); by_cases h9_18 : x9 = 18; (subst h9_18; simp [upd_ap]); simp [upd_ap, h9_17, h9_18]
                          rw [e1]; exact hM
                        exact ih44 (i + 1) (farR (A 0) (7 * i) u v s) (nI (sfR (A 0) (7 * i) u v s)) x7 x8 σ (by omega) (by omega) (hx7.trans (congrArg (fun p => oM p.1) e4.symm)) (hx8.trans (congrArg (fun p => p.2) e4.symm)) hM
                      · refine g_aload_n rfl ld_0 89 rfl dX1_through_88 ?_
                        have g9 : (upd (upd F 18 (nI (sfR (A 0) (7 * i) u v s))) 17 (farR (A 0) (7 * i) u v s)) 17 = farR (A 0) (7 * i) u v s := (upd_s _ _ _)
                        refine g_getf (kf := 17) (v := .int (farR (A 0) (7 * i) u v s)) hM.1 (mfs_get (by decide) g9) rfl in_X1 (by decide) q1678 rfl 92 rfl dX1_through_89 ?_
                        refine g_iload ld_8 94 rfl dX1_through_92 ?_
                        refine g_icmp_le 107 97 rfl (by decide) dX1_through_94 (fun c94 => ?_) (fun c94 => ?_)
                        · have e4 : bsN (A 0) u v s bf (i + 1) = bsN (A 0) u v s bf i := by
                            clear hx7; rw [bsN, if_neg (by rw [← hx8]; clear hx8; simp [*])]
                          refine g_iinc (v := nI (i + 1)) ld_9 (nI_1 _) sa_9 110 rfl dX1_through_107 ?_
                          refine g_goto 44 (by decide) dX1_through_110 ?_
                          have hM : MW D h ad σ0 (upd (upd F 17 ((farR (A 0) (7 * i) u v s))) 18 ((nI (sfR (A 0) (7 * i) u v s)))) A σ := by
                            have e1 : upd (upd F 17 ((farR (A 0) (7 * i) u v s))) 18 ((nI (sfR (A 0) (7 * i) u v s))) = upd (upd F 18 (nI (sfR (A 0) (7 * i) u v s))) 17 (farR (A 0) (7 * i) u v s) := by funext x9; by_cases h9_17 : x9 = 17; (subst h9_17; simp [upd_ap]); by_cases h9_18 : x9 = 18; (subst h9_18; simp [upd_ap]); simp [upd_ap, h9_17, h9_18]
                            rw [e1]; exact hM
                          exact ih44 (i + 1) (farR (A 0) (7 * i) u v s) (nI (sfR (A 0) (7 * i) u v s)) x7 x8 σ (by omega) (by omega) (hx7.trans (congrArg (fun p => oM p.1) e4.symm)) (hx8.trans (congrArg (fun p => p.2) e4.symm)) hM
                        · refine g_iload ld_9 99 rfl dX1_through_97 ?_
                          refine g_istore sa_7 101 rfl dX1_through_99 ?_
                          refine g_aload_n rfl ld_0 102 rfl dX1_through_101 ?_
                          have g9 : (upd (upd F 18 (nI (sfR (A 0) (7 * i) u v s))) 17 (farR (A 0) (7 * i) u v s)) 17 = farR (A 0) (7 * i) u v s := (upd_s _ _ _)
                          refine g_getf (kf := 17) (v := .int (farR (A 0) (7 * i) u v s)) hM.1 (mfs_get (by decide) g9) rfl in_X1 (by decide) q1678 rfl 105 rfl dX1_through_102 ?_
                          refine g_istore sa_8 107 rfl dX1_through_105 ?_
                          have e4 : bsN (A 0) u v s bf (i + 1) = (i, farR (A 0) (7 * i) u v s) := by
                            rw [bsN, if_pos (by rw [← hx8]; simp [c57, c76, c85, c94])]
                          refine g_iinc (v := nI (i + 1)) ld_9 (nI_1 _) sa_9 110 rfl dX1_through_107 ?_
                          refine g_goto 44 (by decide) dX1_through_110 ?_
                          have hM : MW D h ad σ0 (upd (upd F 17 ((farR (A 0) (7 * i) u v s))) 18 ((nI (sfR (A 0) (7 * i) u v s)))) A σ := by
                            have e1 : upd (upd F 17 ((farR (A 0) (7 * i) u v s))) 18 ((nI (sfR (A 0) (7 * i) u v s))) = upd (upd F 18 (nI (sfR (A 0) (7 * i) u v s))) 17 (farR (A 0) (7 * i) u v s) := by funext x9; by_cases h9_17 : x9 = 17; (subst h9_17; simp [upd_ap]); by_cases h9_18 : x9 = 18; (subst h9_18; simp [upd_ap]); simp [upd_ap, h9_17, h9_18]
                            rw [e1]; exact hM
                          exact ih44 (i + 1) (farR (A 0) (7 * i) u v s) (nI (sfR (A 0) (7 * i) u v s)) (nI i) (farR (A 0) (7 * i) u v s) σ (by omega) (by omega) ((oM_lt (by omega)).symm.trans (congrArg (fun p => oM p.1) e4.symm)) (congrArg (fun p => p.2) e4.symm) hM
            exact lp44 (12 + 1) 0 g17 g18 ((-106 : Int32)) ((-1000 : Int32)) σ (by omega) (by omega) (by rw [bsN]; exact oM_12.symm) (by rw [bsN]) hM
      have hM : MW D h ad σ0 (upd (upd F 17 ((F 17))) 18 ((F 18))) A σ := by
        have e1 : upd (upd F 17 ((F 17))) 18 ((F 18)) = F := by funext x9; by_cases h9_17 : x9 = 17; (subst h9_17; simp [upd_ap]); by_cases h9_18 : x9 = 18; (subst h9_18; simp [upd_ap]); simp [upd_ap, h9_17, h9_18]
        rw [e1]; exact hM
      exact lp25 (mn + 1) 0 (F 17) (F 18) ((1000 : Int32)) σ (by omega) (by omega) (rfl) hM
    · refine g_bipush (v := -102) (by decide) 16 rfl dX1_through_14 ?_
      exact g_iret hR rfl (Nat.le_of_ble_eq_true rfl) (Nat.le_of_ble_eq_true rfl) ⟨_, rfl, by rw [throughR, if_neg (by simp [*])], _, (sF_refl _ _), hM⟩ dX1_through_16
theorem v_X1_through (l : Launch) (D : DD) (b : Nat) {h : Nat} {ad : Nat → Nat} {σ0 : Hp} {F : Nat → Int32} {A : Nat → Nat → Int32} {σ : Hp} (hM : MW D h ad σ0 F A σ) {w0 : Nat → Int32} (hw0 : A 0 = w0) (u v s m : Int32) : CM l yX1_through cX1_through 10 (some .int) rX1_through D b [.ref h, .int u, .int v, .int s, .int m] σ (PI (fun r σ' => r = throughR (w0) u v s m ∧ ∃ F', sameF [17, 18, 19, 20] F F' ∧ MW D h ad σ0 F' A σ')) := by
  subst hw0
  exact c_X1_through l D b hM u v s m
def rX1_area : Room := { frames := 3, cells := 0, slots := 0, locals := 55 }
theorem k_X1_area : CV yX1_area cX1_area 5 (some .int) 1 := ⟨q1952, q1953, q81, q1954, by decide +kernel, by decide +kernel, by decide +kernel⟩
set_option maxHeartbeats 2000000 in
theorem c_X1_area (l : Launch) (D : DD) (b : Nat) {h : Nat} {ad : Nat → Nat} {σ0 : Hp} {F : Nat → Int32} {A : Nat → Nat → Int32} {σ : Hp} (hM : MW D h ad σ0 F A σ) (v : Int32) : CM l yX1_area cX1_area 5 (some .int) rX1_area D b [.ref h, .int v] σ (PI (fun r σ' => r = areaR (A 0) v ∧ ∃ F', sameF [17, 18, 19, 20] F F' ∧ MW D h ad σ0 F' A σ')) := by
  refine CM_of [some (.ref h), some (.int v), none, none, none] RX1 (by decide) rfl (cat_all rfl) (Nat.le_of_ble_eq_true rfl) rfl ?_
  intro z hz hR hnm
  refine g_aload_n rfl ld_0 1 rfl dX1_area_0 ?_
  refine g_iload_n rfl ld_1 2 rfl dX1_area_1 ?_
  refine g_callV (As := [.int v]) (rest := []) (ci := 1) (v_X1_isBox z.l D b hM (w0 := A 0) rfl v) k_X1_isBox q1759 hM.1 rfl rfl rfl rfl (Nat.le_of_ble_eq_true rfl) ⟨Nat.le_of_ble_eq_true rfl, Nat.le_of_ble_eq_true rfl⟩ 0 0 (Nat.le_of_ble_eq_true rfl) (Nat.le_of_ble_eq_true rfl) (Nat.le_of_ble_eq_true rfl) (Nat.le_of_ble_eq_true rfl) 5 rfl dX1_area_2 (fun v σ1 hq => ?_)
  obtain ⟨rfl, rfl⟩ := hq
  refine g_if_neB 11 8 rfl (by decide) dX1_area_5 (fun c5 => ?_) (fun c5 => ?_)
  · obtain ⟨j, hj, rfl, hwj⟩ := isBx_in c5
    have hclj := nI_clamp (show j < 2 ^ 31 by omega)
    refine g_iconst (v := 0) (by decide) 12 rfl dX1_area_11 ?_
    refine g_istore_n rfl sa_2 13 rfl dX1_area_12 ?_
    refine g_bipush (v := -32) (by decide) 15 rfl dX1_area_13 ?_
    refine g_istore_n rfl sa_3 16 rfl dX1_area_15 ?_
    rw [U_0]
    have lp16 : ∀ (fu a : Nat) (f17 f18 : Int32) (x2 : Int32) (σ : Hp), a ≤ 64 → 64 + 1 ≤ a + fu → (x2 = sm (fun a => sm (e2R (A 0) j a) 64) a) → MW D h ad σ0 (upd (upd F 17 f17) 18 f18) A σ → G z cX1_area RX1 5 rX1_area D b σ 0 0 16 [some (.ref h), some (.int (nI j)), some (.int x2), some (.int (U a)), none] [] := by
      intro fu
      induction fu with
      | zero => intros; omega
      | succ fu ih16 =>
        intro a f17 f18 x2 σ ha hf hx hM
        refine g_iload_n rfl ld_3 17 rfl dX1_area_16 ?_
        refine g_bipush (v := 32) (by decide) 19 rfl dX1_area_17 ?_
        refine g_icmp_ge 99 22 rfl (by decide) dX1_area_19 (fun c19 => ?_) (fun c19 => ?_)
        · obtain rfl : a = 64 := by have := mt (U_lt a ha).2 c19; omega
          refine g_iload_n rfl ld_2 100 rfl dX1_area_99 ?_
          exact g_iret hR rfl (Nat.le_of_ble_eq_true rfl) (Nat.le_of_ble_eq_true rfl) ⟨_, rfl, by rw [areaR, if_pos c5, hclj]; exact hx, _, (sF_upd (sF_upd (sF_refl _ _) (by decide) _) (by decide) _), hM⟩ dX1_area_100
        · have ha64 := (U_lt a ha).1 c19
          refine g_bipush (v := -32) (by decide) 24 rfl dX1_area_22 ?_
          refine g_istore sa_4 26 rfl dX1_area_24 ?_
          rw [U_0]
          have lp26 : ∀ (fu c : Nat) (g17 g18 : Int32) (z2 : Int32) (σ : Hp), c ≤ 64 → 64 + 1 ≤ c + fu → (z2 = x2 + sm (e2R (A 0) j a) c) → MW D h ad σ0 (upd (upd F 17 g17) 18 g18) A σ → G z cX1_area RX1 5 rX1_area D b σ 0 0 26 [some (.ref h), some (.int (nI j)), some (.int z2), some (.int (U a)), some (.int (U c))] [] := by
            intro fu
            induction fu with
            | zero => intros; omega
            | succ fu ih26 =>
              intro c g17 g18 z2 σ hc hf hz2 hM
              refine g_iload ld_4 28 rfl dX1_area_26 ?_
              refine g_bipush (v := 32) (by decide) 30 rfl dX1_area_28 ?_
              refine g_icmp_ge 93 33 rfl (by decide) dX1_area_30 (fun c30 => ?_) (fun c30 => ?_)
              · have hc64 : c = 64 := by have := mt (U_lt c hc).2 c30; omega
                refine g_iinc (v := (U a) + 1) ld_3 (of1 _) sa_3 96 rfl dX1_area_93 ?_
                rw [U_s a ha64]
                refine g_goto 16 (by decide) dX1_area_96 ?_
                refine G_lv dr_4 ?_
                exact ih16 (a + 1) g17 g18 z2 σ (by omega) (by omega) (by rw [hz2, hx, sm]; obtain rfl : c = 64 := (by omega); rfl) hM
              · have hc64 := (U_lt c hc).1 c30
                refine g_iload_n rfl ld_2 34 rfl dX1_area_33 ?_
                refine g_aload_n rfl ld_0 35 rfl dX1_area_34 ?_
                refine g_aload_n rfl ld_0 36 rfl dX1_area_35 ?_
                refine g_getf (kf := 0) (v := .ref (ad 0)) hM.1 rfl rfl in_X1 (by decide) q1661 rfl 39 rfl dX1_area_36 ?_
                refine g_bipush (v := 7) (by decide) 41 rfl dX1_area_39 ?_
                refine g_iload_n rfl ld_1 42 rfl dX1_area_41 ?_
                refine g_imulN (a := 7) (c := j) (show (7 : Int32) = nI 7 from rfl) rfl 43 rfl dX1_area_42 ?_
                refine g_iload_n rfl ld_3 44 rfl dX1_area_43 ?_
                refine g_iload ld_4 46 rfl dX1_area_44 ?_
                refine g_iconst (v := 0) (by decide) 47 rfl dX1_area_46 ?_
                refine g_callV (As := [.ref (ad 0), .int (nI (7 * j)), .int (U a), .int (U c), .int ((0 : Int32))]) (rest := [.int z2]) (ci := 1) (c_X1_isMet z.l D b hM 0 84 (7 * j) (A 0) (by omega) rfl (by omega) (U a) (U c) ((0 : Int32))) k_X1_isMet q1931 hM.1 rfl rfl rfl rfl (Nat.le_of_ble_eq_true rfl) ⟨Nat.le_of_ble_eq_true rfl, Nat.le_of_ble_eq_true rfl⟩ 0 0 (Nat.le_of_ble_eq_true rfl) (Nat.le_of_ble_eq_true rfl) (Nat.le_of_ble_eq_true rfl) (Nat.le_of_ble_eq_true rfl) 50 rfl dX1_area_47 (fun v σ1 hq => ?_)
                obtain ⟨_, rfl, rfl, hM⟩ := hq
                revert σ1
                intro σ hM
                have hM : MW D h ad σ0 (upd (upd F 18 (nI (sfR (A 0) (7 * j) (U a) (U c) ((0 : Int32))))) 17 (farR (A 0) (7 * j) (U a) (U c) ((0 : Int32)))) A σ := by
                  have e9 : upd (upd F 18 (nI (sfR (A 0) (7 * j) (U a) (U c) ((0 : Int32))))) 17 (farR (A 0) (7 * j) (U a) (U c) ((0 : Int32))) = upd (upd (upd (upd F 17 g17) 18 g18) 18 (nI (sfR (A 0) (7 * j) (U a) (U c) ((0 : Int32))))) 17 (farR (A 0) (7 * j) (U a) (U c) ((0 : Int32))) := by funext x9; by_cases h9_17 : x9 = 17; (subst h9_17; simp [upd_ap]); by_cases h9_18 : x9 = 18; (subst h9_18; simp [upd_ap]); simp [upd_ap, h9_17, h9_18]
                  rw [e9]; exact hM
                have j58 : ∀ y0 : Int32, y0 = bI (hitR (A 0) (7 * j) (U a) (U c) 0) → G z cX1_area RX1 5 rX1_area D b σ 0 0 58 [some (.ref h), some (.int (nI j)), some (.int z2), some (.int (U a)), some (.int (U c))] [.int y0, .int z2] := by
                  intro y0 hy0
                  refine g_iadd 59 rfl dX1_area_58 ?_
                  refine g_istore_n rfl sa_2 60 rfl dX1_area_59 ?_
                  refine g_iload_n rfl ld_2 61 rfl dX1_area_60 ?_
                  refine g_aload_n rfl ld_0 62 rfl dX1_area_61 ?_
                  refine g_aload_n rfl ld_0 63 rfl dX1_area_62 ?_
                  refine g_getf (kf := 0) (v := .ref (ad 0)) hM.1 rfl rfl in_X1 (by decide) q1661 rfl 66 rfl dX1_area_63 ?_
                  refine g_bipush (v := 7) (by decide) 68 rfl dX1_area_66 ?_
                  refine g_iload_n rfl ld_1 69 rfl dX1_area_68 ?_
                  refine g_imulN (a := 7) (c := j) (show (7 : Int32) = nI 7 from rfl) rfl 70 rfl dX1_area_69 ?_
                  refine g_iload_n rfl ld_3 71 rfl dX1_area_70 ?_
                  refine g_iload ld_4 73 rfl dX1_area_71 ?_
                  refine g_iconst (v := 1) (by decide) 74 rfl dX1_area_73 ?_
                  refine g_callV (As := [.ref (ad 0), .int (nI (7 * j)), .int (U a), .int (U c), .int ((1 : Int32))]) (rest := [.int (z2 + y0)]) (ci := 1) (c_X1_isMet z.l D b hM 0 84 (7 * j) (A 0) (by omega) rfl (by omega) (U a) (U c) ((1 : Int32))) k_X1_isMet q1931 hM.1 rfl rfl rfl rfl (Nat.le_of_ble_eq_true rfl) ⟨Nat.le_of_ble_eq_true rfl, Nat.le_of_ble_eq_true rfl⟩ 0 0 (Nat.le_of_ble_eq_true rfl) (Nat.le_of_ble_eq_true rfl) (Nat.le_of_ble_eq_true rfl) (Nat.le_of_ble_eq_true rfl) 77 rfl dX1_area_74 (fun v σ1 hq => ?_)
                  obtain ⟨_, rfl, rfl, hM⟩ := hq
                  revert σ1
                  intro σ hM
                  have hM : MW D h ad σ0 (upd (upd F 18 (nI (sfR (A 0) (7 * j) (U a) (U c) ((1 : Int32))))) 17 (farR (A 0) (7 * j) (U a) (U c) ((1 : Int32)))) A σ := by
                    have e9 : upd (upd F 18 (nI (sfR (A 0) (7 * j) (U a) (U c) ((1 : Int32))))) 17 (farR (A 0) (7 * j) (U a) (U c) ((1 : Int32))) = upd (upd (upd (upd F 18 (nI (sfR (A 0) (7 * j) (U a) (U c) ((0 : Int32))))) 17 (farR (A 0) (7 * j) (U a) (U c) ((0 : Int32)))) 18 (nI (sfR (A 0) (7 * j) (U a) (U c) ((1 : Int32))))) 17 (farR (A 0) (7 * j) (U a) (U c) ((1 : Int32))) := by funext x9; by_cases h9_17 : x9 = 17; (subst h9_17; simp [upd_ap]); by_cases h9_18 : x9 = 18; (subst h9_18; simp [upd_ap]); simp [upd_ap, h9_17, h9_18]
                    rw [e9]; exact hM
                  have j85 : ∀ y1 : Int32, y1 = bI (hitR (A 0) (7 * j) (U a) (U c) 1) → G z cX1_area RX1 5 rX1_area D b σ 0 0 85 [some (.ref h), some (.int (nI j)), some (.int (z2 + y0)), some (.int (U a)), some (.int (U c))] [.int y1, .int (z2 + y0)] := by
                    intro y1 hy1
                    refine g_iadd 86 rfl dX1_area_85 ?_
                    refine g_istore_n rfl sa_2 87 rfl dX1_area_86 ?_
                    refine g_iinc (v := (U c) + 1) ld_4 (of1 _) sa_4 90 rfl dX1_area_87 ?_
                    rw [U_s c hc64]
                    refine g_goto 26 (by decide) dX1_area_90 ?_
                    have hM : MW D h ad σ0 (upd (upd F 17 ((farR (A 0) (7 * j) (U a) (U c) ((1 : Int32))))) 18 ((nI (sfR (A 0) (7 * j) (U a) (U c) ((1 : Int32)))))) A σ := by
                      have e1 : upd (upd F 17 ((farR (A 0) (7 * j) (U a) (U c) ((1 : Int32))))) 18 ((nI (sfR (A 0) (7 * j) (U a) (U c) ((1 : Int32))))) = upd (upd F 18 (nI (sfR (A 0) (7 * j) (U a) (U c) ((1 : Int32))))) 17 (farR (A 0) (7 * j) (U a) (U c) ((1 : Int32))) := by funext x9; by_cases h9_17 : x9 = 17; (subst h9_17; simp [upd_ap]); by_cases h9_18 : x9 = 18; (subst h9_18; simp [upd_ap]); simp [upd_ap, h9_17, h9_18]
                      rw [e1]; exact hM
                    exact ih26 (c + 1) (farR (A 0) (7 * j) (U a) (U c) ((1 : Int32))) (nI (sfR (A 0) (7 * j) (U a) (U c) ((1 : Int32)))) ((z2 + y0) + y1) σ (by omega) (by omega) (by rw [hz2, hy0, hy1, Int32.add_assoc]; exact sm_acc _ _ _) hM
                  refine g_if_eqB 84 80 rfl (by decide) dX1_area_77 (fun c77 => ?_) (fun c77 => ?_)
                  · refine g_iconst (v := 0) (by decide) 85 rfl dX1_area_84 ?_
                    exact j85 ((0 : Int32)) (by rw [c77]; rfl)
                  · refine g_iconst (v := 1) (by decide) 81 rfl dX1_area_80 ?_
                    refine g_goto 85 (by decide) dX1_area_81 ?_
                    exact j85 ((1 : Int32)) (by rw [c77]; rfl)
                refine g_if_eqB 57 53 rfl (by decide) dX1_area_50 (fun c50 => ?_) (fun c50 => ?_)
                · refine g_iconst (v := 0) (by decide) 58 rfl dX1_area_57 ?_
                  exact j58 ((0 : Int32)) (by rw [c50]; rfl)
                · refine g_iconst (v := 1) (by decide) 54 rfl dX1_area_53 ?_
                  refine g_goto 58 (by decide) dX1_area_54 ?_
                  exact j58 ((1 : Int32)) (by rw [c50]; rfl)
          exact lp26 (64 + 1) 0 f17 f18 x2 σ (by omega) (by omega) (sm_acc0 _ _) hM
    have hM : MW D h ad σ0 (upd (upd F 17 ((F 17))) 18 ((F 18))) A σ := by
      have e1 : upd (upd F 17 ((F 17))) 18 ((F 18)) = F := by funext x9; by_cases h9_17 : x9 = 17; (subst h9_17; simp [upd_ap]); by_cases h9_18 : x9 = 18; (subst h9_18; simp [upd_ap]); simp [upd_ap, h9_17, h9_18]
      rw [e1]; exact hM
    exact lp16 (64 + 1) 0 (F 17) (F 18) ((0 : Int32)) σ (by omega) (by omega) (rfl) hM
  · refine g_bipush (v := -101) (by decide) 10 rfl dX1_area_8 ?_
    exact g_iret hR rfl (Nat.le_of_ble_eq_true rfl) (Nat.le_of_ble_eq_true rfl) ⟨_, rfl, by rw [areaR, if_neg (by simp [c5])], _, (sF_refl _ _), hM⟩ dX1_area_10
theorem v_X1_area (l : Launch) (D : DD) (b : Nat) {h : Nat} {ad : Nat → Nat} {σ0 : Hp} {F : Nat → Int32} {A : Nat → Nat → Int32} {σ : Hp} (hM : MW D h ad σ0 F A σ) {w0 : Nat → Int32} (hw0 : A 0 = w0) (v : Int32) : CM l yX1_area cX1_area 5 (some .int) rX1_area D b [.ref h, .int v] σ (PI (fun r σ' => r = areaR (w0) v ∧ ∃ F', sameF [17, 18, 19, 20] F F' ∧ MW D h ad σ0 F' A σ')) := by
  subst hw0
  exact c_X1_area l D b hM v
