/-! THE REFERENCE, part 4: push -/
set_option maxRecDepth 100000
theorem ti_add {a c : Int32} (h1 : -2147483648 ≤ a.toInt + c.toInt) (h2 : a.toInt + c.toInt < 2147483648) : (a + c).toInt = a.toInt + c.toInt := by
  rw [Int32.toInt_add]
  exact Int.bmod_eq_of_le (by omega) (by omega)
def pd (q : Nat) (way : Int32) (k : Nat) : Int32 := if q = k then way else 0
def pT (t w : Nat → Int32) (j q : Nat) (way : Int32) : Nat → Int32 := tr6 t (w (7 * j) + pd q way 0) (w (7 * j + 1) + pd q way 1) (w (7 * j + 2) + pd q way 2) (w (7 * j + 3) + pd q way 0) (w (7 * j + 4) + pd q way 1) (w (7 * j + 5) + pd q way 2)
def pOk (t w : Nat → Int32) (j q : Nat) (way : Int32) : Bool := possR (pT t w j q way) && decide (metR (pT t w j q way) w (nI j) = -106)
def plP (j q : Nat) (way : Int32) : Nat → (Nat → Int32) → (Nat → Int32) → Nat → (Nat → Int32) × (Nat → Int32) × Nat
  | 0, t, w, n => (t, w, n)
  | f + 1, t, w, n => if pOk t w j q way = true then plP j q way f (pT t w j q way) (layW w (pT t w j q way) j) (n + 1) else (pT t w j q way, w, n)
/-- the box of row j is possible -/
def rowOk (w : Nat → Int32) (j q : Nat) : Prop := 0 ≤ (w (7 * j + q)).toInt ∧ (w (7 * j + q)).toInt < (w (7 * j + 3 + q)).toInt ∧ (w (7 * j + 3 + q)).toInt ≤ 32
def way1 (way : Int32) : Prop := way = 1 ∨ way = -1
theorem lay_at {w t : Nat → Int32} {j x : Nat} (h : x < 6) : layW w t j (7 * j + x) = t x := by
  simp only [layW, upd, cpP]
  rw [if_neg (by omega), if_pos (by omega)]
  congr 1; omega
theorem pT_lo {t w : Nat → Int32} {j q : Nat} {way : Int32} (hq : q < 3) : pT t w j q way q = w (7 * j + q) + way ∧ pT t w j q way (3 + q) = w (7 * j + 3 + q) + way := by
  have h3 : q = 0 ∨ q = 1 ∨ q = 2 := by omega
  rcases h3 with h | h | h <;> subst h <;> exact ⟨rfl, rfl⟩
theorem poss_lt {t : Nat → Int32} (h : possR t = true) {q : Nat} (hq : q < 3) : 0 ≤ (t q).toInt ∧ (t q).toInt < (t (3 + q)).toInt ∧ (t (3 + q)).toInt ≤ 32 := by
  have h3 : okR t q = true := by
    simp only [possR, al, Bool.and_eq_true, Bool.true_and] at h
    have : q = 0 ∨ q = 1 ∨ q = 2 := by omega
    rcases this with e | e | e <;> subst e
    · exact h.1.1
    · exact h.1.2
    · exact h.2
  simp only [okR, Bool.and_eq_true, Bool.not_eq_true', decide_eq_false_iff_not, decide_eq_true_eq, Int32.lt_iff_toInt_lt] at h3
  rw [Nat.add_comm 3 q]
  have z0 : (0 : Int32).toInt = 0 := rfl
  have z32 : (32 : Int32).toInt = 32 := rfl
  rw [z0, z32] at h3
  omega
theorem p_step {t w : Nat → Int32} {j q : Nat} {way : Int32} (hq : q < 3) (hw : way1 way) (h : pOk t w j q way = true) (hr : rowOk w j q) :
    rowOk (layW w (pT t w j q way) j) j q ∧ (layW w (pT t w j q way) j (7 * j + q)).toInt = (w (7 * j + q)).toInt + way.toInt := by
  simp only [pOk, Bool.and_eq_true] at h
  have hp := poss_lt h.1 hq
  obtain ⟨e1, e2⟩ := pT_lo (t := t) (w := w) (j := j) (way := way) hq
  have l1 : layW w (pT t w j q way) j (7 * j + q) = pT t w j q way q := lay_at (by omega)
  have l2 : layW w (pT t w j q way) j (7 * j + 3 + q) = pT t w j q way (3 + q) := by rw [Nat.add_assoc]; exact lay_at (by omega)
  refine ⟨?_, ?_⟩
  · unfold rowOk
    rw [l1, l2]; exact hp
  · rw [l1, e1]
    have hwt : way.toInt = 1 ∨ way.toInt = -1 := by rcases hw with e | e <;> subst e <;> decide
    obtain ⟨a1, a2, a3⟩ := hr
    exact ti_add (by omega) (by omega)
def pushM (F : Nat → Int32) (A : Nat → Nat → Int32) (c : Nat) (v ax way : Int32) : MS :=
  if isBx (A 0) v = false then (-101, F, A)
  else if (inR ax 0 2 && (decide (way = 1) || decide (way = -1))) = false then (-102, F, A)
  else (nI (plP v.toNatClampNeg ax.toNatClampNeg way 34 (A 7) (A 0) 0).2.2, kpF F c, uA (uA (uA A 1 (keepP (A 1) (A 0) c)) 7 (plP v.toNatClampNeg ax.toNatClampNeg way 34 (A 7) (A 0) 0).1) 0 (plP v.toNatClampNeg ax.toNatClampNeg way 34 (A 7) (A 0) 0).2.1)
def pInv (w0 w : Nat → Int32) (j q : Nat) (way : Int32) (i : Nat) : Prop := rowOk w j q ∧ ((way = 1 ∧ (w (7 * j + q)).toInt = (w0 (7 * j + q)).toInt + i) ∨ (way = -1 ∧ (w (7 * j + q)).toInt + i = (w0 (7 * j + q)).toInt))
theorem pInv.le {w0 w : Nat → Int32} {j q : Nat} {way : Int32} {i : Nat} (h : pInv w0 w j q way i) (h0 : rowOk w0 j q) : i ≤ 32 := by
  obtain ⟨⟨a1, a2, a3⟩, h2⟩ := h
  obtain ⟨b1, b2, b3⟩ := h0
  omega
theorem pInv.step {w0 w t : Nat → Int32} {j q : Nat} {way : Int32} {i : Nat} (hq : q < 3) (h : pInv w0 w j q way i) (hk : pOk t w j q way = true) : pInv w0 (layW w (pT t w j q way) j) j q way (i + 1) := by
  obtain ⟨h1, h2⟩ := h
  have hw : way1 way := by rcases h2 with ⟨e, -⟩ | ⟨e, -⟩ <;> simp [way1, e]
  obtain ⟨r1, r2⟩ := p_step hq hw hk h1
  refine ⟨r1, ?_⟩
  rcases h2 with ⟨e, h2⟩ | ⟨e, h2⟩
  · left; refine ⟨e, ?_⟩; rw [r2, e, show (1 : Int32).toInt = 1 from rfl]; omega
  · right; refine ⟨e, ?_⟩; rw [r2, e, show (-1 : Int32).toInt = -1 from rfl]; omega
theorem plP_s {j q : Nat} {way : Int32} {t w : Nat → Int32} {i : Nat} (hi : i ≤ 33) (hk : pOk t w j q way = true) : plP j q way (34 - (i + 1)) (pT t w j q way) (layW w (pT t w j q way) j) (i + 1) = plP j q way (34 - i) t w i := by
  rw [show 34 - i = (34 - (i + 1)) + 1 by omega, plP, if_pos hk]
theorem plP_e {j q : Nat} {way : Int32} {t w : Nat → Int32} {i : Nat} (hi : i ≤ 33) (hk : pOk t w j q way = false) : plP j q way (34 - i) t w i = (pT t w j q way, w, i) := by
  rw [show 34 - i = (34 - (i + 1)) + 1 by omega, plP, hk]; rfl
def rX1_push : Room := { frames := 4, cells := 0, slots := 0, locals := 78 }
theorem k_X1_push : CV yX1_push cX1_push 9 (some .int) 3 := ⟨q1819, q1820, q81, q1821, by decide +kernel, by decide +kernel, by decide +kernel⟩
set_option maxHeartbeats 2000000 in
theorem c_X1_push (l : Launch) (D : DD) (b : Nat) {h : Nat} {ad : Nat → Nat} {σ0 : Hp} {F : Nat → Int32} {A : Nat → Nat → Int32} {σ : Hp} (hM : MW D h ad σ0 F A σ) (c : Nat) (hc : F 2 = nI c) (hc8 : c ≤ 8) (hP : ∀ j, j < 12 → A 0 (7 * j + 6) = 1 → ∀ q, q < 3 → rowOk (A 0) j q) (v ax way : Int32) : CM l yX1_push cX1_push 9 (some .int) rX1_push D b [.ref h, .int v, .int ax, .int way] σ (PI (fun r σ' => r = (pushM F A c v ax way).1 ∧ MW D h ad σ0 (pushM F A c v ax way).2.1 (pushM F A c v ax way).2.2 σ')) := by
  refine CM_of [some (.ref h), some (.int v), some (.int ax), some (.int way), none, none, none, none, none] RX1 (by decide) rfl (cat_all rfl) (Nat.le_of_ble_eq_true rfl) rfl ?_
  intro z hz hR hnm
  refine g_aload_n rfl ld_0 1 rfl dX1_push_0 ?_
  refine g_iload_n rfl ld_1 2 rfl dX1_push_1 ?_
  refine g_callV (As := [.int v]) (rest := []) (ci := 1) (v_X1_isBox z.l D b hM (w0 := A 0) rfl v) k_X1_isBox q1759 hM.1 rfl rfl rfl rfl (Nat.le_of_ble_eq_true rfl) ⟨Nat.le_of_ble_eq_true rfl, Nat.le_of_ble_eq_true rfl⟩ 0 0 (Nat.le_of_ble_eq_true rfl) (Nat.le_of_ble_eq_true rfl) (Nat.le_of_ble_eq_true rfl) (Nat.le_of_ble_eq_true rfl) 5 rfl dX1_push_2 (fun v σ1 hq => ?_)
  obtain ⟨rfl, rfl⟩ := hq
  refine g_if_neB 11 8 rfl (by decide) dX1_push_5 (fun c5 => ?_) (fun c5 => ?_)
  · obtain ⟨j, hj, rfl, hwj⟩ := isBx_in c5
    have hclj := nI_clamp (show j < 2 ^ 31 by omega)
    refine g_iload_n rfl ld_2 12 rfl dX1_push_11 ?_
    refine g_iconst (v := 0) (by decide) 13 rfl dX1_push_12 ?_
    refine g_iconst (v := 2) (by decide) 14 rfl dX1_push_13 ?_
    refine g_callS (As := [.int ax, .int ((0 : Int32)), .int ((2 : Int32))]) (rest := []) (c_X1_isIn z.l D b (σ := σ) ax ((0 : Int32)) ((2 : Int32))) k_X1_isIn q1763 rfl rfl (Nat.le_of_ble_eq_true rfl) ⟨Nat.le_of_ble_eq_true rfl, Nat.le_of_ble_eq_true rfl⟩ 0 0 (Nat.le_of_ble_eq_true rfl) (Nat.le_of_ble_eq_true rfl) (Nat.le_of_ble_eq_true rfl) (Nat.le_of_ble_eq_true rfl) 17 rfl dX1_push_14 (fun v σ1 hq => ?_)
    obtain ⟨rfl, rfl⟩ := hq
    refine g_if_eqB 30 20 rfl (by decide) dX1_push_17 (fun c17 => ?_) (fun c17 => ?_)
    · refine g_bipush (v := -102) (by decide) 32 rfl dX1_push_30 ?_
      have e9 : pushM F A c (nI j) ax way = ((-102 : Int32), F, A) := by simp [pushM, *]
      exact g_iret hR rfl (Nat.le_of_ble_eq_true rfl) (Nat.le_of_ble_eq_true rfl) ⟨_, rfl, by rw [e9], by rw [e9]; exact hM⟩ dX1_push_32
    · obtain ⟨q, hq, rfl⟩ := inR_nat (N := 2) c17 (by decide)
      have hclq := nI_clamp (show q < 2 ^ 31 by omega)
      refine g_iload_n rfl ld_3 21 rfl dX1_push_20 ?_
      refine g_iconst (v := 1) (by decide) 22 rfl dX1_push_21 ?_
      refine g_icmp_eq 33 25 rfl (by decide) dX1_push_22 (fun c22 => ?_) (fun c22 => ?_)
      · refine g_aload_n rfl ld_0 34 rfl dX1_push_33 ?_
        refine g_callV (As := []) (rest := []) (ci := 1) (v_X1_keep z.l D b hM (w0 := A 0) rfl (w1 := A 1) rfl c hc hc8) k_X1_keep q1773 hM.1 rfl rfl rfl rfl (Nat.le_of_ble_eq_true rfl) ⟨Nat.le_of_ble_eq_true rfl, Nat.le_of_ble_eq_true rfl⟩ 0 0 (Nat.le_of_ble_eq_true rfl) (Nat.le_of_ble_eq_true rfl) (Nat.le_of_ble_eq_true rfl) (Nat.le_of_ble_eq_true rfl) 37 rfl dX1_push_34 (fun v σ1 hq => ?_)
        obtain ⟨rfl, hM⟩ := hq
        revert σ1
        intro σ hM
        refine g_iconst (v := 0) (by decide) 38 rfl dX1_push_37 ?_
        refine g_istore sa_4 40 rfl dX1_push_38 ?_
        refine g_iconst (v := 1) (by decide) 41 rfl dX1_push_40 ?_
        refine g_istore sa_5 43 rfl dX1_push_41 ?_
        have lp43 : ∀ (fu i : Nat) (t w : Nat → Int32) (σ : Hp), i ≤ 33 → 33 + 1 ≤ i + fu → (plP j q way (34 - i) t w i = plP j q way 34 (A 7) (A 0) 0) → (pInv (A 0) w j q way i) → MW D h ad σ0 (upd F 2 (nI (kc c + 1))) (uA (uA (uA A 1 (keepP (A 1) (A 0) c)) 7 t) 0 w) σ → G z cX1_push RX1 9 rX1_push D b σ 0 0 43 [some (.ref h), some (.int (nI j)), some (.int (nI q)), some (.int way), some (.int (nI i)), some (.int ((1 : Int32))), none, none, none] [] := by
          intro fu
          induction fu with
          | zero => intros; omega
          | succ fu ih43 =>
            intro i t w σ hi hf hpl hpi hM
            refine g_iload ld_5 45 rfl dX1_push_43 ?_
            refine g_if_eq 177 48 rfl (by decide) dX1_push_45 (fun cz => absurd cz (by decide)) (fun cz => ?_)
            have j57 : ∀ dx : Int32, dx = pd q way 0 → G z cX1_push RX1 9 rX1_push D b σ 0 0 57 [some (.ref h), some (.int (nI j)), some (.int (nI q)), some (.int way), some (.int (nI i)), some (.int ((1 : Int32))), none, none, none] [.int dx] := by
              intro dx hdx
              subst hdx
              refine g_istore sa_6 59 rfl dX1_push_57 ?_
              have j69 : ∀ dy : Int32, dy = pd q way 1 → G z cX1_push RX1 9 rX1_push D b σ 0 0 69 [some (.ref h), some (.int (nI j)), some (.int (nI q)), some (.int way), some (.int (nI i)), some (.int ((1 : Int32))), some (.int (pd q way 0)), none, none] [.int dy] := by
                intro dy hdy
                subst hdy
                refine g_istore sa_7 71 rfl dX1_push_69 ?_
                have j81 : ∀ dz : Int32, dz = pd q way 2 → G z cX1_push RX1 9 rX1_push D b σ 0 0 81 [some (.ref h), some (.int (nI j)), some (.int (nI q)), some (.int way), some (.int (nI i)), some (.int ((1 : Int32))), some (.int (pd q way 0)), some (.int (pd q way 1)), none] [.int dz] := by
                  intro dz hdz
                  subst hdz
                  refine g_istore sa_8 83 rfl dX1_push_81 ?_
                  refine g_aload_n rfl ld_0 84 rfl dX1_push_83 ?_
                  refine g_aload_n rfl ld_0 85 rfl dX1_push_84 ?_
                  refine g_iload_n rfl ld_1 86 rfl dX1_push_85 ?_
                  refine g_iconst (v := 0) (by decide) 87 rfl dX1_push_86 ?_
                  refine g_callV (As := [.int (nI j), .int ((0 : Int32))]) (rest := [.ref h]) (ci := 1) (v_X1_of z.l D b hM (w0 := w) rfl j 0 (by omega)) k_X1_of q1793 hM.1 rfl rfl rfl rfl (Nat.le_of_ble_eq_true rfl) ⟨Nat.le_of_ble_eq_true rfl, Nat.le_of_ble_eq_true rfl⟩ 0 0 (Nat.le_of_ble_eq_true rfl) (Nat.le_of_ble_eq_true rfl) (Nat.le_of_ble_eq_true rfl) (Nat.le_of_ble_eq_true rfl) 90 rfl dX1_push_87 (fun v σ1 hq => ?_)
                  obtain ⟨rfl, rfl⟩ := hq
                  refine g_iload ld_6 92 rfl dX1_push_90 ?_
                  refine g_iadd 93 rfl dX1_push_92 ?_
                  refine g_aload_n rfl ld_0 94 rfl dX1_push_93 ?_
                  refine g_iload_n rfl ld_1 95 rfl dX1_push_94 ?_
                  refine g_iconst (v := 1) (by decide) 96 rfl dX1_push_95 ?_
                  refine g_callV (As := [.int (nI j), .int ((1 : Int32))]) (rest := [.int ((w (7 * j)) + (pd q way 0)), .ref h]) (ci := 1) (v_X1_of z.l D b hM (w0 := w) rfl j 1 (by omega)) k_X1_of q1793 hM.1 rfl rfl rfl rfl (Nat.le_of_ble_eq_true rfl) ⟨Nat.le_of_ble_eq_true rfl, Nat.le_of_ble_eq_true rfl⟩ 0 0 (Nat.le_of_ble_eq_true rfl) (Nat.le_of_ble_eq_true rfl) (Nat.le_of_ble_eq_true rfl) (Nat.le_of_ble_eq_true rfl) 99 rfl dX1_push_96 (fun v σ1 hq => ?_)
                  obtain ⟨rfl, rfl⟩ := hq
                  refine g_iload ld_7 101 rfl dX1_push_99 ?_
                  refine g_iadd 102 rfl dX1_push_101 ?_
                  refine g_aload_n rfl ld_0 103 rfl dX1_push_102 ?_
                  refine g_iload_n rfl ld_1 104 rfl dX1_push_103 ?_
                  refine g_iconst (v := 2) (by decide) 105 rfl dX1_push_104 ?_
                  refine g_callV (As := [.int (nI j), .int ((2 : Int32))]) (rest := [.int ((w (7 * j + 1)) + (pd q way 1)), .int ((w (7 * j)) + (pd q way 0)), .ref h]) (ci := 1) (v_X1_of z.l D b hM (w0 := w) rfl j 2 (by omega)) k_X1_of q1793 hM.1 rfl rfl rfl rfl (Nat.le_of_ble_eq_true rfl) ⟨Nat.le_of_ble_eq_true rfl, Nat.le_of_ble_eq_true rfl⟩ 0 0 (Nat.le_of_ble_eq_true rfl) (Nat.le_of_ble_eq_true rfl) (Nat.le_of_ble_eq_true rfl) (Nat.le_of_ble_eq_true rfl) 108 rfl dX1_push_105 (fun v σ1 hq => ?_)
                  obtain ⟨rfl, rfl⟩ := hq
                  refine g_iload ld_8 110 rfl dX1_push_108 ?_
                  refine g_iadd 111 rfl dX1_push_110 ?_
                  refine g_aload_n rfl ld_0 112 rfl dX1_push_111 ?_
                  refine g_iload_n rfl ld_1 113 rfl dX1_push_112 ?_
                  refine g_iconst (v := 3) (by decide) 114 rfl dX1_push_113 ?_
                  refine g_callV (As := [.int (nI j), .int ((3 : Int32))]) (rest := [.int ((w (7 * j + 2)) + (pd q way 2)), .int ((w (7 * j + 1)) + (pd q way 1)), .int ((w (7 * j)) + (pd q way 0)), .ref h]) (ci := 1) (v_X1_of z.l D b hM (w0 := w) rfl j 3 (by omega)) k_X1_of q1793 hM.1 rfl rfl rfl rfl (Nat.le_of_ble_eq_true rfl) ⟨Nat.le_of_ble_eq_true rfl, Nat.le_of_ble_eq_true rfl⟩ 0 0 (Nat.le_of_ble_eq_true rfl) (Nat.le_of_ble_eq_true rfl) (Nat.le_of_ble_eq_true rfl) (Nat.le_of_ble_eq_true rfl) 117 rfl dX1_push_114 (fun v σ1 hq => ?_)
                  obtain ⟨rfl, rfl⟩ := hq
                  refine g_iload ld_6 119 rfl dX1_push_117 ?_
                  refine g_iadd 120 rfl dX1_push_119 ?_
                  refine g_aload_n rfl ld_0 121 rfl dX1_push_120 ?_
                  refine g_iload_n rfl ld_1 122 rfl dX1_push_121 ?_
                  refine g_iconst (v := 4) (by decide) 123 rfl dX1_push_122 ?_
                  refine g_callV (As := [.int (nI j), .int ((4 : Int32))]) (rest := [.int ((w (7 * j + 3)) + (pd q way 0)), .int ((w (7 * j + 2)) + (pd q way 2)), .int ((w (7 * j + 1)) + (pd q way 1)), .int ((w (7 * j)) + (pd q way 0)), .ref h]) (ci := 1) (v_X1_of z.l D b hM (w0 := w) rfl j 4 (by omega)) k_X1_of q1793 hM.1 rfl rfl rfl rfl (Nat.le_of_ble_eq_true rfl) ⟨Nat.le_of_ble_eq_true rfl, Nat.le_of_ble_eq_true rfl⟩ 0 0 (Nat.le_of_ble_eq_true rfl) (Nat.le_of_ble_eq_true rfl) (Nat.le_of_ble_eq_true rfl) (Nat.le_of_ble_eq_true rfl) 126 rfl dX1_push_123 (fun v σ1 hq => ?_)
                  obtain ⟨rfl, rfl⟩ := hq
                  refine g_iload ld_7 128 rfl dX1_push_126 ?_
                  refine g_iadd 129 rfl dX1_push_128 ?_
                  refine g_aload_n rfl ld_0 130 rfl dX1_push_129 ?_
                  refine g_iload_n rfl ld_1 131 rfl dX1_push_130 ?_
                  refine g_iconst (v := 5) (by decide) 132 rfl dX1_push_131 ?_
                  refine g_callV (As := [.int (nI j), .int ((5 : Int32))]) (rest := [.int ((w (7 * j + 4)) + (pd q way 1)), .int ((w (7 * j + 3)) + (pd q way 0)), .int ((w (7 * j + 2)) + (pd q way 2)), .int ((w (7 * j + 1)) + (pd q way 1)), .int ((w (7 * j)) + (pd q way 0)), .ref h]) (ci := 1) (v_X1_of z.l D b hM (w0 := w) rfl j 5 (by omega)) k_X1_of q1793 hM.1 rfl rfl rfl rfl (Nat.le_of_ble_eq_true rfl) ⟨Nat.le_of_ble_eq_true rfl, Nat.le_of_ble_eq_true rfl⟩ 0 0 (Nat.le_of_ble_eq_true rfl) (Nat.le_of_ble_eq_true rfl) (Nat.le_of_ble_eq_true rfl) (Nat.le_of_ble_eq_true rfl) 135 rfl dX1_push_132 (fun v σ1 hq => ?_)
                  obtain ⟨rfl, rfl⟩ := hq
                  refine g_iload ld_8 137 rfl dX1_push_135 ?_
                  refine g_iadd 138 rfl dX1_push_137 ?_
                  refine g_callV (As := [.int ((w (7 * j)) + (pd q way 0)), .int ((w (7 * j + 1)) + (pd q way 1)), .int ((w (7 * j + 2)) + (pd q way 2)), .int ((w (7 * j + 3)) + (pd q way 0)), .int ((w (7 * j + 4)) + (pd q way 1)), .int ((w (7 * j + 5)) + (pd q way 2))]) (rest := []) (ci := 1) (v_X1_isTrial z.l D b hM (w7 := t) rfl ((w (7 * j)) + (pd q way 0)) ((w (7 * j + 1)) + (pd q way 1)) ((w (7 * j + 2)) + (pd q way 2)) ((w (7 * j + 3)) + (pd q way 0)) ((w (7 * j + 4)) + (pd q way 1)) ((w (7 * j + 5)) + (pd q way 2))) k_X1_isTrial q1751 hM.1 rfl rfl rfl rfl (Nat.le_of_ble_eq_true rfl) ⟨Nat.le_of_ble_eq_true rfl, Nat.le_of_ble_eq_true rfl⟩ 0 0 (Nat.le_of_ble_eq_true rfl) (Nat.le_of_ble_eq_true rfl) (Nat.le_of_ble_eq_true rfl) (Nat.le_of_ble_eq_true rfl) 141 rfl dX1_push_138 (fun v σ1 hq => ?_)
                  obtain ⟨_, rfl, rfl, hM⟩ := hq
                  revert σ1
                  intro σ hM
                  have hM : MW D h ad σ0 (upd F 2 (nI (kc c + 1))) (uA (uA (uA A 1 (keepP (A 1) (A 0) c)) 0 w) 7 (tr6 t ((w (7 * j)) + (pd q way 0)) ((w (7 * j + 1)) + (pd q way 1)) ((w (7 * j + 2)) + (pd q way 2)) ((w (7 * j + 3)) + (pd q way 0)) ((w (7 * j + 4)) + (pd q way 1)) ((w (7 * j + 5)) + (pd q way 2)))) σ := by
                    have e9 : uA (uA (uA A 1 (keepP (A 1) (A 0) c)) 0 w) 7 (tr6 t ((w (7 * j)) + (pd q way 0)) ((w (7 * j + 1)) + (pd q way 1)) ((w (7 * j + 2)) + (pd q way 2)) ((w (7 * j + 3)) + (pd q way 0)) ((w (7 * j + 4)) + (pd q way 1)) ((w (7 * j + 5)) + (pd q way 2))) = uA (uA (uA (uA A 1 (keepP (A 1) (A 0) c)) 7 t) 0 w) 7 (tr6 t ((w (7 * j)) + (pd q way 0)) ((w (7 * j + 1)) + (pd q way 1)) ((w (7 * j + 2)) + (pd q way 2)) ((w (7 * j + 3)) + (pd q way 0)) ((w (7 * j + 4)) + (pd q way 1)) ((w (7 * j + 5)) + (pd q way 2))) := by funext x9; simp only [uA_ap]; repeat (first | rfl | split)
                    rw [e9]; exact hM
                  have hM : MW D h ad σ0 (upd F 2 (nI (kc c + 1))) (uA (uA (uA A 1 (keepP (A 1) (A 0) c)) 0 w) 7 (pT t w j q way)) σ := hM
                  show G z cX1_push RX1 9 rX1_push D b σ 0 0 141 [some (.ref h), some (.int (nI j)), some (.int (nI q)), some (.int way), some (.int (nI i)), some (.int ((1 : Int32))), some (.int (pd q way 0)), some (.int (pd q way 1)), some (.int (pd q way 2))] [.int (bI (possR (pT t w j q way)))]
                  have j159 : ∀ g : Int32, g = bI (pOk t w j q way) → G z cX1_push RX1 9 rX1_push D b σ 0 0 159 [some (.ref h), some (.int (nI j)), some (.int (nI q)), some (.int way), some (.int (nI i)), some (.int ((1 : Int32))), some (.int (pd q way 0)), some (.int (pd q way 1)), some (.int (pd q way 2))] [.int g] := by
                    intro g hg
                    subst hg
                    refine g_istore sa_5 161 rfl dX1_push_159 ?_
                    refine g_iload ld_5 163 rfl dX1_push_161 ?_
                    refine g_if_eqB 174 166 rfl (by decide) dX1_push_163 (fun c163 => ?_) (fun c163 => ?_)
                    · rw [c163, bI_f]
                      refine g_goto 43 (by decide) dX1_push_174 ?_
                      refine g_iload ld_5 45 rfl dX1_push_43 ?_
                      refine g_if_eq 177 48 rfl (by decide) dX1_push_45 (fun cz => ?_) (fun cz => absurd cz (by decide))
                      have e7 := hpl.symm.trans (plP_e hi c163)
                      refine g_iload ld_4 179 rfl dX1_push_177 ?_
                      have e9 : pushM F A c (nI j) (nI q) way = (nI i, upd F 2 (nI (kc c + 1)), uA (uA (uA A 1 (keepP (A 1) (A 0) c)) 0 w) 7 (pT t w j q way)) := by
                        have hway : (decide (way = 1) || decide (way = -1)) = true := by rcases hpi.2 with ⟨e, -⟩ | ⟨e, -⟩ <;> simp [e]
                        simp only [pushM, kpF, c5, c17, hclj, hclq, hway, e7, Bool.and_self, Bool.true_eq_false, if_false]
                        refine congrArg (fun f => (nI i, upd F 2 (nI (kc c + 1)), f)) ?_
                        funext x9; by_cases h0 : x9 = 0 <;> by_cases h7 : x9 = 7 <;> simp [uA_ap, *]
                      exact g_iret hR rfl (Nat.le_of_ble_eq_true rfl) (Nat.le_of_ble_eq_true rfl) ⟨_, rfl, by rw [e9], by rw [e9]; exact hM⟩ dX1_push_179
                    · have hle : i ≤ 32 := hpi.le (hP j (by omega) hwj q (by omega))
                      refine g_aload_n rfl ld_0 167 rfl dX1_push_166 ?_
                      refine g_iload_n rfl ld_1 168 rfl dX1_push_167 ?_
                      refine g_callV (As := [.int (nI j)]) (rest := []) (ci := 1) (v_X1_lay z.l D b hM (w0 := w) rfl (w7 := pT t w j q way) rfl j (by omega)) k_X1_lay q1777 hM.1 rfl rfl rfl rfl (Nat.le_of_ble_eq_true rfl) ⟨Nat.le_of_ble_eq_true rfl, Nat.le_of_ble_eq_true rfl⟩ 0 0 (Nat.le_of_ble_eq_true rfl) (Nat.le_of_ble_eq_true rfl) (Nat.le_of_ble_eq_true rfl) (Nat.le_of_ble_eq_true rfl) 171 rfl dX1_push_168 (fun v σ1 hq => ?_)
                      obtain ⟨rfl, hM⟩ := hq
                      revert σ1
                      intro σ hM
                      have hM : MW D h ad σ0 (upd F 2 (nI (kc c + 1))) (uA (uA (uA A 1 (keepP (A 1) (A 0) c)) 7 (pT t w j q way)) 0 (layW w (pT t w j q way) j)) σ := by
                        have e9 : uA (uA (uA A 1 (keepP (A 1) (A 0) c)) 7 (pT t w j q way)) 0 (layW w (pT t w j q way) j) = uA (uA (uA (uA A 1 (keepP (A 1) (A 0) c)) 0 w) 7 (pT t w j q way)) 0 (layW w (pT t w j q way) j) := by funext x9; simp only [uA_ap]; repeat (first | rfl | split)
                        rw [e9]; exact hM
                      refine g_iinc (v := nI (i + 1)) ld_4 (nI_1 _) sa_4 174 rfl dX1_push_171 ?_
                      rw [c163, bI_t]
                      refine g_goto 43 (by decide) dX1_push_174 ?_
                      refine G_lv dr_6 ?_
                      refine G_lv dr_7 ?_
                      refine G_lv dr_8 ?_
                      have hM : MW D h ad σ0 (upd F 2 (nI (kc c + 1))) (uA (uA (uA A 1 (keepP (A 1) (A 0) c)) 7 ((pT t w j q way))) 0 ((layW w (pT t w j q way) j))) σ := by
                        have e2 : uA (uA (uA A 1 (keepP (A 1) (A 0) c)) 7 ((pT t w j q way))) 0 ((layW w (pT t w j q way) j)) = uA (uA (uA A 1 (keepP (A 1) (A 0) c)) 7 (pT t w j q way)) 0 (layW w (pT t w j q way) j) := by funext x9; by_cases h0 : x9 = 0 <;> by_cases h7 : x9 = 7 <;> simp [uA_ap, *]
                        rw [e2]; exact hM
                      exact ih43 (i + 1) (pT t w j q way) (layW w (pT t w j q way) j) σ (by omega) (by omega) ((plP_s hi c163).trans hpl) (hpi.step (by omega) c163) hM
                  refine g_if_eqB 158 144 rfl (by decide) dX1_push_141 (fun c141 => ?_) (fun c141 => ?_)
                  · refine g_iconst (v := 0) (by decide) 159 rfl dX1_push_158 ?_
                    exact j159 ((0 : Int32)) (by rw [pOk, c141]; first | rfl | (simp only [c151, decide_true, Bool.and_self]; rfl) | (simp only [c151, decide_false]; rfl))
                  · refine g_aload_n rfl ld_0 145 rfl dX1_push_144 ?_
                    refine g_iload_n rfl ld_1 146 rfl dX1_push_145 ?_
                    refine g_callV (As := [.int (nI j)]) (rest := []) (ci := 1) (v_X1_metByTrial z.l D b hM (w0 := w) rfl (w7 := pT t w j q way) rfl (nI j)) k_X1_metByTrial q1755 hM.1 rfl rfl rfl rfl (Nat.le_of_ble_eq_true rfl) ⟨Nat.le_of_ble_eq_true rfl, Nat.le_of_ble_eq_true rfl⟩ 0 0 (Nat.le_of_ble_eq_true rfl) (Nat.le_of_ble_eq_true rfl) (Nat.le_of_ble_eq_true rfl) (Nat.le_of_ble_eq_true rfl) 149 rfl dX1_push_146 (fun v σ1 hq => ?_)
                    obtain ⟨rfl, rfl⟩ := hq
                    refine g_bipush (v := -106) (by decide) 151 rfl dX1_push_149 ?_
                    refine g_icmp_ne 158 154 rfl (by decide) dX1_push_151 (fun c151 => ?_) (fun c151 => ?_)
                    · refine g_iconst (v := 0) (by decide) 159 rfl dX1_push_158 ?_
                      exact j159 ((0 : Int32)) (by rw [pOk, c141]; first | rfl | (simp only [c151, decide_true, Bool.and_self]; rfl) | (simp only [c151, decide_false]; rfl))
                    · refine g_iconst (v := 1) (by decide) 155 rfl dX1_push_154 ?_
                      refine g_goto 159 (by decide) dX1_push_155 ?_
                      exact j159 ((1 : Int32)) (by rw [pOk, c141]; first | rfl | (simp only [c151, decide_true, Bool.and_self]; rfl) | (simp only [c151, decide_false]; rfl))
                refine g_iload_n rfl ld_2 72 rfl dX1_push_71 ?_
                refine g_iconst (v := 2) (by decide) 73 rfl dX1_push_72 ?_
                refine g_icmp_neN (a := q) (c := 2) rfl (show (2 : Int32) = nI 2 from rfl) (by omega) (by omega) 80 76 rfl (by decide) dX1_push_73 (fun c73 => ?_) (fun c73 => ?_)
                · refine g_iconst (v := 0) (by decide) 81 rfl dX1_push_80 ?_
                  exact j81 ((0 : Int32)) (by simp [pd, *])
                · refine g_iload_n rfl ld_3 77 rfl dX1_push_76 ?_
                  refine g_goto 81 (by decide) dX1_push_77 ?_
                  exact j81 way (by simp [pd, *])
              refine g_iload_n rfl ld_2 60 rfl dX1_push_59 ?_
              refine g_iconst (v := 1) (by decide) 61 rfl dX1_push_60 ?_
              refine g_icmp_neN (a := q) (c := 1) rfl (show (1 : Int32) = nI 1 from rfl) (by omega) (by omega) 68 64 rfl (by decide) dX1_push_61 (fun c61 => ?_) (fun c61 => ?_)
              · refine g_iconst (v := 0) (by decide) 69 rfl dX1_push_68 ?_
                exact j69 ((0 : Int32)) (by simp [pd, *])
              · refine g_iload_n rfl ld_3 65 rfl dX1_push_64 ?_
                refine g_goto 69 (by decide) dX1_push_65 ?_
                exact j69 way (by simp [pd, *])
            refine g_iload_n rfl ld_2 49 rfl dX1_push_48 ?_
            refine g_if_neN (a := q) rfl (by omega) 56 52 rfl (by decide) dX1_push_49 (fun c49 => ?_) (fun c49 => ?_)
            · refine g_iconst (v := 0) (by decide) 57 rfl dX1_push_56 ?_
              exact j57 ((0 : Int32)) (by simp [pd, *])
            · refine g_iload_n rfl ld_3 53 rfl dX1_push_52 ?_
              refine g_goto 57 (by decide) dX1_push_53 ?_
              exact j57 way (by simp [pd, *])
        have hM : MW D h ad σ0 (upd F 2 (nI (kc c + 1))) (uA (uA (uA A 1 (keepP (A 1) (A 0) c)) 7 ((A 7))) 0 ((A 0))) σ := by
          have e2 : uA (uA (uA A 1 (keepP (A 1) (A 0) c)) 7 ((A 7))) 0 ((A 0)) = uA A 1 (keepP (A 1) (A 0) c) := by funext x9; by_cases h0 : x9 = 0 <;> by_cases h7 : x9 = 7 <;> simp [uA_ap, *]
          rw [e2]; exact hM
        exact lp43 (33 + 1) 0 (A 7) (A 0) σ (by omega) (by omega) (rfl) (⟨hP j (by omega) hwj q (by omega), by first | exact Or.inl ⟨by assumption, by simp⟩ | exact Or.inr ⟨by assumption, by simp⟩⟩) hM
      · refine g_iload_n rfl ld_3 26 rfl dX1_push_25 ?_
        refine g_iconst (v := -1) (by decide) 27 rfl dX1_push_26 ?_
        refine g_icmp_eq 33 30 rfl (by decide) dX1_push_27 (fun c27 => ?_) (fun c27 => ?_)
        · refine g_aload_n rfl ld_0 34 rfl dX1_push_33 ?_
          refine g_callV (As := []) (rest := []) (ci := 1) (v_X1_keep z.l D b hM (w0 := A 0) rfl (w1 := A 1) rfl c hc hc8) k_X1_keep q1773 hM.1 rfl rfl rfl rfl (Nat.le_of_ble_eq_true rfl) ⟨Nat.le_of_ble_eq_true rfl, Nat.le_of_ble_eq_true rfl⟩ 0 0 (Nat.le_of_ble_eq_true rfl) (Nat.le_of_ble_eq_true rfl) (Nat.le_of_ble_eq_true rfl) (Nat.le_of_ble_eq_true rfl) 37 rfl dX1_push_34 (fun v σ1 hq => ?_)
          obtain ⟨rfl, hM⟩ := hq
          revert σ1
          intro σ hM
          refine g_iconst (v := 0) (by decide) 38 rfl dX1_push_37 ?_
          refine g_istore sa_4 40 rfl dX1_push_38 ?_
          refine g_iconst (v := 1) (by decide) 41 rfl dX1_push_40 ?_
          refine g_istore sa_5 43 rfl dX1_push_41 ?_
          have lp43 : ∀ (fu i : Nat) (t w : Nat → Int32) (σ : Hp), i ≤ 33 → 33 + 1 ≤ i + fu → (plP j q way (34 - i) t w i = plP j q way 34 (A 7) (A 0) 0) → (pInv (A 0) w j q way i) → MW D h ad σ0 (upd F 2 (nI (kc c + 1))) (uA (uA (uA A 1 (keepP (A 1) (A 0) c)) 7 t) 0 w) σ → G z cX1_push RX1 9 rX1_push D b σ 0 0 43 [some (.ref h), some (.int (nI j)), some (.int (nI q)), some (.int way), some (.int (nI i)), some (.int ((1 : Int32))), none, none, none] [] := by
            intro fu
            induction fu with
            | zero => intros; omega
            | succ fu ih43 =>
              intro i t w σ hi hf hpl hpi hM
              refine g_iload ld_5 45 rfl dX1_push_43 ?_
              refine g_if_eq 177 48 rfl (by decide) dX1_push_45 (fun cz => absurd cz (by decide)) (fun cz => ?_)
              have j57 : ∀ dx : Int32, dx = pd q way 0 → G z cX1_push RX1 9 rX1_push D b σ 0 0 57 [some (.ref h), some (.int (nI j)), some (.int (nI q)), some (.int way), some (.int (nI i)), some (.int ((1 : Int32))), none, none, none] [.int dx] := by
                intro dx hdx
                subst hdx
                refine g_istore sa_6 59 rfl dX1_push_57 ?_
                have j69 : ∀ dy : Int32, dy = pd q way 1 → G z cX1_push RX1 9 rX1_push D b σ 0 0 69 [some (.ref h), some (.int (nI j)), some (.int (nI q)), some (.int way), some (.int (nI i)), some (.int ((1 : Int32))), some (.int (pd q way 0)), none, none] [.int dy] := by
                  intro dy hdy
                  subst hdy
                  refine g_istore sa_7 71 rfl dX1_push_69 ?_
                  have j81 : ∀ dz : Int32, dz = pd q way 2 → G z cX1_push RX1 9 rX1_push D b σ 0 0 81 [some (.ref h), some (.int (nI j)), some (.int (nI q)), some (.int way), some (.int (nI i)), some (.int ((1 : Int32))), some (.int (pd q way 0)), some (.int (pd q way 1)), none] [.int dz] := by
                    intro dz hdz
                    subst hdz
                    refine g_istore sa_8 83 rfl dX1_push_81 ?_
                    refine g_aload_n rfl ld_0 84 rfl dX1_push_83 ?_
                    refine g_aload_n rfl ld_0 85 rfl dX1_push_84 ?_
                    refine g_iload_n rfl ld_1 86 rfl dX1_push_85 ?_
                    refine g_iconst (v := 0) (by decide) 87 rfl dX1_push_86 ?_
                    refine g_callV (As := [.int (nI j), .int ((0 : Int32))]) (rest := [.ref h]) (ci := 1) (v_X1_of z.l D b hM (w0 := w) rfl j 0 (by omega)) k_X1_of q1793 hM.1 rfl rfl rfl rfl (Nat.le_of_ble_eq_true rfl) ⟨Nat.le_of_ble_eq_true rfl, Nat.le_of_ble_eq_true rfl⟩ 0 0 (Nat.le_of_ble_eq_true rfl) (Nat.le_of_ble_eq_true rfl) (Nat.le_of_ble_eq_true rfl) (Nat.le_of_ble_eq_true rfl) 90 rfl dX1_push_87 (fun v σ1 hq => ?_)
                    obtain ⟨rfl, rfl⟩ := hq
                    refine g_iload ld_6 92 rfl dX1_push_90 ?_
                    refine g_iadd 93 rfl dX1_push_92 ?_
                    refine g_aload_n rfl ld_0 94 rfl dX1_push_93 ?_
                    refine g_iload_n rfl ld_1 95 rfl dX1_push_94 ?_
                    refine g_iconst (v := 1) (by decide) 96 rfl dX1_push_95 ?_
                    refine g_callV (As := [.int (nI j), .int ((1 : Int32))]) (rest := [.int ((w (7 * j)) + (pd q way 0)), .ref h]) (ci := 1) (v_X1_of z.l D b hM (w0 := w) rfl j 1 (by omega)) k_X1_of q1793 hM.1 rfl rfl rfl rfl (Nat.le_of_ble_eq_true rfl) ⟨Nat.le_of_ble_eq_true rfl, Nat.le_of_ble_eq_true rfl⟩ 0 0 (Nat.le_of_ble_eq_true rfl) (Nat.le_of_ble_eq_true rfl) (Nat.le_of_ble_eq_true rfl) (Nat.le_of_ble_eq_true rfl) 99 rfl dX1_push_96 (fun v σ1 hq => ?_)
                    obtain ⟨rfl, rfl⟩ := hq
                    refine g_iload ld_7 101 rfl dX1_push_99 ?_
                    refine g_iadd 102 rfl dX1_push_101 ?_
                    refine g_aload_n rfl ld_0 103 rfl dX1_push_102 ?_
                    refine g_iload_n rfl ld_1 104 rfl dX1_push_103 ?_
                    refine g_iconst (v := 2) (by decide) 105 rfl dX1_push_104 ?_
                    refine g_callV (As := [.int (nI j), .int ((2 : Int32))]) (rest := [.int ((w (7 * j + 1)) + (pd q way 1)), .int ((w (7 * j)) + (pd q way 0)), .ref h]) (ci := 1) (v_X1_of z.l D b hM (w0 := w) rfl j 2 (by omega)) k_X1_of q1793 hM.1 rfl rfl rfl rfl (Nat.le_of_ble_eq_true rfl) ⟨Nat.le_of_ble_eq_true rfl, Nat.le_of_ble_eq_true rfl⟩ 0 0 (Nat.le_of_ble_eq_true rfl) (Nat.le_of_ble_eq_true rfl) (Nat.le_of_ble_eq_true rfl) (Nat.le_of_ble_eq_true rfl) 108 rfl dX1_push_105 (fun v σ1 hq => ?_)
                    obtain ⟨rfl, rfl⟩ := hq
                    refine g_iload ld_8 110 rfl dX1_push_108 ?_
                    refine g_iadd 111 rfl dX1_push_110 ?_
                    refine g_aload_n rfl ld_0 112 rfl dX1_push_111 ?_
                    refine g_iload_n rfl ld_1 113 rfl dX1_push_112 ?_
                    refine g_iconst (v := 3) (by decide) 114 rfl dX1_push_113 ?_
                    refine g_callV (As := [.int (nI j), .int ((3 : Int32))]) (rest := [.int ((w (7 * j + 2)) + (pd q way 2)), .int ((w (7 * j + 1)) + (pd q way 1)), .int ((w (7 * j)) + (pd q way 0)), .ref h]) (ci := 1) (v_X1_of z.l D b hM (w0 := w) rfl j 3 (by omega)) k_X1_of q1793 hM.1 rfl rfl rfl rfl (Nat.le_of_ble_eq_true rfl) ⟨Nat.le_of_ble_eq_true rfl, Nat.le_of_ble_eq_true rfl⟩ 0 0 (Nat.le_of_ble_eq_true rfl) (Nat.le_of_ble_eq_true rfl) (Nat.le_of_ble_eq_true rfl) (Nat.le_of_ble_eq_true rfl) 117 rfl dX1_push_114 (fun v σ1 hq => ?_)
                    obtain ⟨rfl, rfl⟩ := hq
                    refine g_iload ld_6 119 rfl dX1_push_117 ?_
                    refine g_iadd 120 rfl dX1_push_119 ?_
                    refine g_aload_n rfl ld_0 121 rfl dX1_push_120 ?_
                    refine g_iload_n rfl ld_1 122 rfl dX1_push_121 ?_
                    refine g_iconst (v := 4) (by decide) 123 rfl dX1_push_122 ?_
                    refine g_callV (As := [.int (nI j), .int ((4 : Int32))]) (rest := [.int ((w (7 * j + 3)) + (pd q way 0)), .int ((w (7 * j + 2)) + (pd q way 2)), .int ((w (7 * j + 1)) + (pd q way 1)), .int ((w (7 * j)) + (pd q way 0)), .ref h]) (ci := 1) (v_X1_of z.l D b hM (w0 := w) rfl j 4 (by omega)) k_X1_of q1793 hM.1 rfl rfl rfl rfl (Nat.le_of_ble_eq_true rfl) ⟨Nat.le_of_ble_eq_true rfl, Nat.le_of_ble_eq_true rfl⟩ 0 0 (Nat.le_of_ble_eq_true rfl) (Nat.le_of_ble_eq_true rfl) (Nat.le_of_ble_eq_true rfl) (Nat.le_of_ble_eq_true rfl) 126 rfl dX1_push_123 (fun v σ1 hq => ?_)
                    obtain ⟨rfl, rfl⟩ := hq
                    refine g_iload ld_7 128 rfl dX1_push_126 ?_
                    refine g_iadd 129 rfl dX1_push_128 ?_
                    refine g_aload_n rfl ld_0 130 rfl dX1_push_129 ?_
                    refine g_iload_n rfl ld_1 131 rfl dX1_push_130 ?_
                    refine g_iconst (v := 5) (by decide) 132 rfl dX1_push_131 ?_
                    refine g_callV (As := [.int (nI j), .int ((5 : Int32))]) (rest := [.int ((w (7 * j + 4)) + (pd q way 1)), .int ((w (7 * j + 3)) + (pd q way 0)), .int ((w (7 * j + 2)) + (pd q way 2)), .int ((w (7 * j + 1)) + (pd q way 1)), .int ((w (7 * j)) + (pd q way 0)), .ref h]) (ci := 1) (v_X1_of z.l D b hM (w0 := w) rfl j 5 (by omega)) k_X1_of q1793 hM.1 rfl rfl rfl rfl (Nat.le_of_ble_eq_true rfl) ⟨Nat.le_of_ble_eq_true rfl, Nat.le_of_ble_eq_true rfl⟩ 0 0 (Nat.le_of_ble_eq_true rfl) (Nat.le_of_ble_eq_true rfl) (Nat.le_of_ble_eq_true rfl) (Nat.le_of_ble_eq_true rfl) 135 rfl dX1_push_132 (fun v σ1 hq => ?_)
                    obtain ⟨rfl, rfl⟩ := hq
                    refine g_iload ld_8 137 rfl dX1_push_135 ?_
                    refine g_iadd 138 rfl dX1_push_137 ?_
                    refine g_callV (As := [.int ((w (7 * j)) + (pd q way 0)), .int ((w (7 * j + 1)) + (pd q way 1)), .int ((w (7 * j + 2)) + (pd q way 2)), .int ((w (7 * j + 3)) + (pd q way 0)), .int ((w (7 * j + 4)) + (pd q way 1)), .int ((w (7 * j + 5)) + (pd q way 2))]) (rest := []) (ci := 1) (v_X1_isTrial z.l D b hM (w7 := t) rfl ((w (7 * j)) + (pd q way 0)) ((w (7 * j + 1)) + (pd q way 1)) ((w (7 * j + 2)) + (pd q way 2)) ((w (7 * j + 3)) + (pd q way 0)) ((w (7 * j + 4)) + (pd q way 1)) ((w (7 * j + 5)) + (pd q way 2))) k_X1_isTrial q1751 hM.1 rfl rfl rfl rfl (Nat.le_of_ble_eq_true rfl) ⟨Nat.le_of_ble_eq_true rfl, Nat.le_of_ble_eq_true rfl⟩ 0 0 (Nat.le_of_ble_eq_true rfl) (Nat.le_of_ble_eq_true rfl) (Nat.le_of_ble_eq_true rfl) (Nat.le_of_ble_eq_true rfl) 141 rfl dX1_push_138 (fun v σ1 hq => ?_)
                    obtain ⟨_, rfl, rfl, hM⟩ := hq
                    revert σ1
                    intro σ hM
                    have hM : MW D h ad σ0 (upd F 2 (nI (kc c + 1))) (uA (uA (uA A 1 (keepP (A 1) (A 0) c)) 0 w) 7 (tr6 t ((w (7 * j)) + (pd q way 0)) ((w (7 * j + 1)) + (pd q way 1)) ((w (7 * j + 2)) + (pd q way 2)) ((w (7 * j + 3)) + (pd q way 0)) ((w (7 * j + 4)) + (pd q way 1)) ((w (7 * j + 5)) + (pd q way 2)))) σ := by
                      have e9 : uA (uA (uA A 1 (keepP (A 1) (A 0) c)) 0 w) 7 (tr6 t ((w (7 * j)) + (pd q way 0)) ((w (7 * j + 1)) + (pd q way 1)) ((w (7 * j + 2)) + (pd q way 2)) ((w (7 * j + 3)) + (pd q way 0)) ((w (7 * j + 4)) + (pd q way 1)) ((w (7 * j + 5)) + (pd q way 2))) = uA (uA (uA (uA A 1 (keepP (A 1) (A 0) c)) 7 t) 0 w) 7 (tr6 t ((w (7 * j)) + (pd q way 0)) ((w (7 * j + 1)) + (pd q way 1)) ((w (7 * j + 2)) + (pd q way 2)) ((w (7 * j + 3)) + (pd q way 0)) ((w (7 * j + 4)) + (pd q way 1)) ((w (7 * j + 5)) + (pd q way 2))) := by funext x9; simp only [uA_ap]; repeat (first | rfl | split)
                      rw [e9]; exact hM
                    have hM : MW D h ad σ0 (upd F 2 (nI (kc c + 1))) (uA (uA (uA A 1 (keepP (A 1) (A 0) c)) 0 w) 7 (pT t w j q way)) σ := hM
                    show G z cX1_push RX1 9 rX1_push D b σ 0 0 141 [some (.ref h), some (.int (nI j)), some (.int (nI q)), some (.int way), some (.int (nI i)), some (.int ((1 : Int32))), some (.int (pd q way 0)), some (.int (pd q way 1)), some (.int (pd q way 2))] [.int (bI (possR (pT t w j q way)))]
                    have j159 : ∀ g : Int32, g = bI (pOk t w j q way) → G z cX1_push RX1 9 rX1_push D b σ 0 0 159 [some (.ref h), some (.int (nI j)), some (.int (nI q)), some (.int way), some (.int (nI i)), some (.int ((1 : Int32))), some (.int (pd q way 0)), some (.int (pd q way 1)), some (.int (pd q way 2))] [.int g] := by
                      intro g hg
                      subst hg
                      refine g_istore sa_5 161 rfl dX1_push_159 ?_
                      refine g_iload ld_5 163 rfl dX1_push_161 ?_
                      refine g_if_eqB 174 166 rfl (by decide) dX1_push_163 (fun c163 => ?_) (fun c163 => ?_)
                      · rw [c163, bI_f]
                        refine g_goto 43 (by decide) dX1_push_174 ?_
                        refine g_iload ld_5 45 rfl dX1_push_43 ?_
                        refine g_if_eq 177 48 rfl (by decide) dX1_push_45 (fun cz => ?_) (fun cz => absurd cz (by decide))
                        have e7 := hpl.symm.trans (plP_e hi c163)
                        refine g_iload ld_4 179 rfl dX1_push_177 ?_
                        have e9 : pushM F A c (nI j) (nI q) way = (nI i, upd F 2 (nI (kc c + 1)), uA (uA (uA A 1 (keepP (A 1) (A 0) c)) 0 w) 7 (pT t w j q way)) := by
                          have hway : (decide (way = 1) || decide (way = -1)) = true := by rcases hpi.2 with ⟨e, -⟩ | ⟨e, -⟩ <;> simp [e]
                          simp only [pushM, kpF, c5, c17, hclj, hclq, hway, e7, Bool.and_self, Bool.true_eq_false, if_false]
                          refine congrArg (fun f => (nI i, upd F 2 (nI (kc c + 1)), f)) ?_
                          funext x9; by_cases h0 : x9 = 0 <;> by_cases h7 : x9 = 7 <;> simp [uA_ap, *]
                        exact g_iret hR rfl (Nat.le_of_ble_eq_true rfl) (Nat.le_of_ble_eq_true rfl) ⟨_, rfl, by rw [e9], by rw [e9]; exact hM⟩ dX1_push_179
                      · have hle : i ≤ 32 := hpi.le (hP j (by omega) hwj q (by omega))
                        refine g_aload_n rfl ld_0 167 rfl dX1_push_166 ?_
                        refine g_iload_n rfl ld_1 168 rfl dX1_push_167 ?_
                        refine g_callV (As := [.int (nI j)]) (rest := []) (ci := 1) (v_X1_lay z.l D b hM (w0 := w) rfl (w7 := pT t w j q way) rfl j (by omega)) k_X1_lay q1777 hM.1 rfl rfl rfl rfl (Nat.le_of_ble_eq_true rfl) ⟨Nat.le_of_ble_eq_true rfl, Nat.le_of_ble_eq_true rfl⟩ 0 0 (Nat.le_of_ble_eq_true rfl) (Nat.le_of_ble_eq_true rfl) (Nat.le_of_ble_eq_true rfl) (Nat.le_of_ble_eq_true rfl) 171 rfl dX1_push_168 (fun v σ1 hq => ?_)
                        obtain ⟨rfl, hM⟩ := hq
                        revert σ1
                        intro σ hM
                        have hM : MW D h ad σ0 (upd F 2 (nI (kc c + 1))) (uA (uA (uA A 1 (keepP (A 1) (A 0) c)) 7 (pT t w j q way)) 0 (layW w (pT t w j q way) j)) σ := by
                          have e9 : uA (uA (uA A 1 (keepP (A 1) (A 0) c)) 7 (pT t w j q way)) 0 (layW w (pT t w j q way) j) = uA (uA (uA (uA A 1 (keepP (A 1) (A 0) c)) 0 w) 7 (pT t w j q way)) 0 (layW w (pT t w j q way) j) := by funext x9; simp only [uA_ap]; repeat (first | rfl | split)
                          rw [e9]; exact hM
                        refine g_iinc (v := nI (i + 1)) ld_4 (nI_1 _) sa_4 174 rfl dX1_push_171 ?_
                        rw [c163, bI_t]
                        refine g_goto 43 (by decide) dX1_push_174 ?_
                        refine G_lv dr_6 ?_
                        refine G_lv dr_7 ?_
                        refine G_lv dr_8 ?_
                        have hM : MW D h ad σ0 (upd F 2 (nI (kc c + 1))) (uA (uA (uA A 1 (keepP (A 1) (A 0) c)) 7 ((pT t w j q way))) 0 ((layW w (pT t w j q way) j))) σ := by
                          have e2 : uA (uA (uA A 1 (keepP (A 1) (A 0) c)) 7 ((pT t w j q way))) 0 ((layW w (pT t w j q way) j)) = uA (uA (uA A 1 (keepP (A 1) (A 0) c)) 7 (pT t w j q way)) 0 (layW w (pT t w j q way) j) := by funext x9; by_cases h0 : x9 = 0 <;> by_cases h7 : x9 = 7 <;> simp [uA_ap, *]
                          rw [e2]; exact hM
                        exact ih43 (i + 1) (pT t w j q way) (layW w (pT t w j q way) j) σ (by omega) (by omega) ((plP_s hi c163).trans hpl) (hpi.step (by omega) c163) hM
                    refine g_if_eqB 158 144 rfl (by decide) dX1_push_141 (fun c141 => ?_) (fun c141 => ?_)
                    · refine g_iconst (v := 0) (by decide) 159 rfl dX1_push_158 ?_
                      exact j159 ((0 : Int32)) (by rw [pOk, c141]; first | rfl | (simp only [c151, decide_true, Bool.and_self]; rfl) | (simp only [c151, decide_false]; rfl))
                    · refine g_aload_n rfl ld_0 145 rfl dX1_push_144 ?_
                      refine g_iload_n rfl ld_1 146 rfl dX1_push_145 ?_
                      refine g_callV (As := [.int (nI j)]) (rest := []) (ci := 1) (v_X1_metByTrial z.l D b hM (w0 := w) rfl (w7 := pT t w j q way) rfl (nI j)) k_X1_metByTrial q1755 hM.1 rfl rfl rfl rfl (Nat.le_of_ble_eq_true rfl) ⟨Nat.le_of_ble_eq_true rfl, Nat.le_of_ble_eq_true rfl⟩ 0 0 (Nat.le_of_ble_eq_true rfl) (Nat.le_of_ble_eq_true rfl) (Nat.le_of_ble_eq_true rfl) (Nat.le_of_ble_eq_true rfl) 149 rfl dX1_push_146 (fun v σ1 hq => ?_)
                      obtain ⟨rfl, rfl⟩ := hq
                      refine g_bipush (v := -106) (by decide) 151 rfl dX1_push_149 ?_
                      refine g_icmp_ne 158 154 rfl (by decide) dX1_push_151 (fun c151 => ?_) (fun c151 => ?_)
                      · refine g_iconst (v := 0) (by decide) 159 rfl dX1_push_158 ?_
                        exact j159 ((0 : Int32)) (by rw [pOk, c141]; first | rfl | (simp only [c151, decide_true, Bool.and_self]; rfl) | (simp only [c151, decide_false]; rfl))
                      · refine g_iconst (v := 1) (by decide) 155 rfl dX1_push_154 ?_
                        refine g_goto 159 (by decide) dX1_push_155 ?_
                        exact j159 ((1 : Int32)) (by rw [pOk, c141]; first | rfl | (simp only [c151, decide_true, Bool.and_self]; rfl) | (simp only [c151, decide_false]; rfl))
                  refine g_iload_n rfl ld_2 72 rfl dX1_push_71 ?_
                  refine g_iconst (v := 2) (by decide) 73 rfl dX1_push_72 ?_
                  refine g_icmp_neN (a := q) (c := 2) rfl (show (2 : Int32) = nI 2 from rfl) (by omega) (by omega) 80 76 rfl (by decide) dX1_push_73 (fun c73 => ?_) (fun c73 => ?_)
                  · refine g_iconst (v := 0) (by decide) 81 rfl dX1_push_80 ?_
                    exact j81 ((0 : Int32)) (by simp [pd, *])
                  · refine g_iload_n rfl ld_3 77 rfl dX1_push_76 ?_
                    refine g_goto 81 (by decide) dX1_push_77 ?_
                    exact j81 way (by simp [pd, *])
                refine g_iload_n rfl ld_2 60 rfl dX1_push_59 ?_
                refine g_iconst (v := 1) (by decide) 61 rfl dX1_push_60 ?_
                refine g_icmp_neN (a := q) (c := 1) rfl (show (1 : Int32) = nI 1 from rfl) (by omega) (by omega) 68 64 rfl (by decide) dX1_push_61 (fun c61 => ?_) (fun c61 => ?_)
                · refine g_iconst (v := 0) (by decide) 69 rfl dX1_push_68 ?_
                  exact j69 ((0 : Int32)) (by simp [pd, *])
                · refine g_iload_n rfl ld_3 65 rfl dX1_push_64 ?_
                  refine g_goto 69 (by decide) dX1_push_65 ?_
                  exact j69 way (by simp [pd, *])
              refine g_iload_n rfl ld_2 49 rfl dX1_push_48 ?_
              refine g_if_neN (a := q) rfl (by omega) 56 52 rfl (by decide) dX1_push_49 (fun c49 => ?_) (fun c49 => ?_)
              · refine g_iconst (v := 0) (by decide) 57 rfl dX1_push_56 ?_
                exact j57 ((0 : Int32)) (by simp [pd, *])
              · refine g_iload_n rfl ld_3 53 rfl dX1_push_52 ?_
                refine g_goto 57 (by decide) dX1_push_53 ?_
                exact j57 way (by simp [pd, *])
          have hM : MW D h ad σ0 (upd F 2 (nI (kc c + 1))) (uA (uA (uA A 1 (keepP (A 1) (A 0) c)) 7 ((A 7))) 0 ((A 0))) σ := by
            have e2 : uA (uA (uA A 1 (keepP (A 1) (A 0) c)) 7 ((A 7))) 0 ((A 0)) = uA A 1 (keepP (A 1) (A 0) c) := by funext x9; by_cases h0 : x9 = 0 <;> by_cases h7 : x9 = 7 <;> simp [uA_ap, *]
            rw [e2]; exact hM
          exact lp43 (33 + 1) 0 (A 7) (A 0) σ (by omega) (by omega) (rfl) (⟨hP j (by omega) hwj q (by omega), by first | exact Or.inl ⟨by assumption, by simp⟩ | exact Or.inr ⟨by assumption, by simp⟩⟩) hM
        · refine g_bipush (v := -102) (by decide) 32 rfl dX1_push_30 ?_
          have e9 : pushM F A c (nI j) (nI q) way = ((-102 : Int32), F, A) := by simp [pushM, *]
          exact g_iret hR rfl (Nat.le_of_ble_eq_true rfl) (Nat.le_of_ble_eq_true rfl) ⟨_, rfl, by rw [e9], by rw [e9]; exact hM⟩ dX1_push_32
  · refine g_bipush (v := -101) (by decide) 10 rfl dX1_push_8 ?_
    have e9 : pushM F A c v ax way = ((-101 : Int32), F, A) := by simp [pushM, *]
    exact g_iret hR rfl (Nat.le_of_ble_eq_true rfl) (Nat.le_of_ble_eq_true rfl) ⟨_, rfl, by rw [e9], by rw [e9]; exact hM⟩ dX1_push_10
