/-! THE REFERENCE, part 18: readItem, fault -/
set_option maxRecDepth 100000
def sepR (i : Nat) : Int32 := if i = 2 then 58 else if i = 5 then 59 else 44
def sepO (t : Nat → Int32) (ln i : Nat) (s : RS) : RS :=
  (s.1 + 1, if s.2.1 = -106 ∧ ¬ (s.1 < ln ∧ t s.1 = sepR i) then nI s.1 else s.2.1, s.2.2)
def itS (t : Nat → Int32) (ln m : Nat) (s0 : RS) : Nat → RS
  | 0 => s0
  | i + 1 => if (itS t ln m s0 i).2.1 = -106 then sepO t ln i (rcO t ln m i (itS t ln m s0 i)) else itS t ln m s0 i
def mwS (rd : Nat → Int32) (m a : Nat) (wr : Int32) : Nat → Int32
  | 0 => wr
  | j + 1 => if mwS rd m a wr j = -106 ∧ meetR rd (7 * m) rd (7 * j) = true then nI (a - 1) else mwS rd m a wr j
def itemO (t : Nat → Int32) (ln m : Nat) (s0 : RS) : RS := ((itS t ln m s0 6).1, mwS (itS t ln m s0 6).2.2 m (itS t ln m s0 6).1 (itS t ln m s0 6).2.1 m, (itS t ln m s0 6).2.2)

theorem sep_lt {t : Nat → Int32} {ln i : Nat} {s : RS} (hs : s.1 < 2 ^ 31) (h : (sepO t ln i s).2.1 = -106) : s.2.1 = -106 ∧ s.1 < ln := by
  simp only [sepO] at h
  by_cases e : s.2.1 = -106 ∧ ¬ (s.1 < ln ∧ t s.1 = sepR i)
  · rw [if_pos e] at h
    exact absurd h (nI_n106 hs)
  · rw [if_neg e] at h
    refine ⟨h, ?_⟩
    by_cases hl : s.1 < ln
    · exact hl
    · exact absurd ⟨h, fun q => hl q.1⟩ e
theorem it_le {t : Nat → Int32} {ln m : Nat} {s0 : RS} (h0 : s0.1 ≤ ln) (hln : ln ≤ 240) : ∀ i, (itS t ln m s0 i).1 ≤ ln + 1 ∧ s0.1 ≤ (itS t ln m s0 i).1 ∧ ((itS t ln m s0 i).2.1 = -106 → (itS t ln m s0 i).1 ≤ ln ∧ i + s0.1 ≤ (itS t ln m s0 i).1)
  | 0 => ⟨by rw [itS]; omega, by rw [itS]; omega, fun _ => by rw [itS]; omega⟩
  | i + 1 => by
    obtain ⟨p1, p2, p3⟩ := it_le (t := t) (m := m) h0 hln i
    rw [itS]
    by_cases e : (itS t ln m s0 i).2.1 = -106
    · rw [if_pos e]
      have p4 := p3 e
      have p5 := rc_le (t := t) (m := m) (k := i) p4.1
      refine ⟨by show _ + 1 ≤ _; omega, by show _ ≤ _ + 1; omega, fun q => ?_⟩
      have p6 := (sep_lt (by omega) q).2
      exact ⟨by show _ + 1 ≤ _; omega, by show _ ≤ _ + 1; omega⟩
    · rw [if_neg e]
      exact ⟨p1, p2, fun q => absurd q e⟩
theorem item_le {t : Nat → Int32} {ln m : Nat} {s0 : RS} (h0 : s0.1 ≤ ln) (hln : ln ≤ 240) : (itemO t ln m s0).1 ≤ ln + 1 := by
  unfold itemO
  dsimp only
  exact (it_le h0 hln 6).1
theorem mw_wr {rd : Nat → Int32} {m a : Nat} {wr : Int32} (ha : a < 2 ^ 31) : ∀ j, mwS rd m a wr j = -106 → wr = -106
  | 0, h => h
  | j + 1, h => by
    rw [mwS] at h
    split at h
    · exact absurd h (nI_n106 (by omega))
    · exact mw_wr ha j h
theorem item_wr {t : Nat → Int32} {ln m : Nat} {s0 : RS} (h0 : s0.1 ≤ ln) (hln : ln ≤ 240) (h : (itemO t ln m s0).2.1 = -106) : (itemO t ln m s0).1 ≤ ln := by
  unfold itemO at h ⊢
  dsimp only at h ⊢
  have h1 := it_le (t := t) (m := m) h0 hln 6
  exact (h1.2.2 (mw_wr (by omega) _ h)).1
theorem it_stay {t : Nat → Int32} {ln m : Nat} {s0 : RS} {i : Nat} (h : ¬ (itS t ln m s0 i).2.1 = -106) : ∀ k, i ≤ k → itS t ln m s0 k = itS t ln m s0 i
  | 0, hk => by rw [show i = 0 by omega]
  | k + 1, hk => by
    by_cases e : i = k + 1
    · rw [e]
    · have := it_stay h k (by omega)
      rw [itS, this, if_neg h]
theorem mw_stay {rd : Nat → Int32} {m a : Nat} {wr : Int32} {i : Nat} (h : ¬ mwS rd m a wr i = -106) : ∀ k, i ≤ k → mwS rd m a wr k = mwS rd m a wr i
  | 0, hk => by rw [show i = 0 by omega]
  | k + 1, hk => by
    by_cases e : i = k + 1
    · rw [e]
    · have := mw_stay h k (by omega)
      rw [mwS, this, if_neg (fun q => h q.1)]
def rX1_readItem : Room := { frames := 4, cells := 0, slots := 0, locals := 77 }
theorem k_X1_readItem : CV yX1_readItem cX1_readItem 3 none 0 := ⟨q1997, qs71, q81, q1998, by decide +kernel, by decide +kernel, by decide +kernel⟩
set_option maxHeartbeats 2000000 in
theorem c_X1_readItem (l : Launch) (D : DD) (b : Nat) {h : Nat} {ad : Nat → Nat} {σ0 : Hp} {F : Nat → Int32} {A : Nat → Nat → Int32} {σ : Hp} (hM : MW D h ad σ0 F A σ) (ln : Nat) (hln : F 6 = nI ln) (hln240 : ln ≤ 240) (a : Nat) (ha : F 24 = nI a) (hal : a ≤ ln) (m : Nat) (hm : F 27 = nI m) (hm12 : m < 12) : CM l yX1_readItem cX1_readItem 3 none rX1_readItem D b [.ref h] σ (PV (fun σ' => MW D h ad σ0 (upd (upd (upd F 24 (nI (itemO (A 5) ln m (a, F 25, A 26)).1)) 25 (itemO (A 5) ln m (a, F 25, A 26)).2.1) 27 (nI (m + 1))) (uA A 26 (itemO (A 5) ln m (a, F 25, A 26)).2.2) σ')) := by
  refine CM_of [some (.ref h), none, none] RX1 (by decide) rfl (cat_all rfl) (Nat.le_of_ble_eq_true rfl) rfl ?_
  intro z hz hR hnm
  refine g_iconst (v := 0) (by decide) 1 rfl dX1_readItem_0 ?_
  refine g_istore_n rfl sa_1 2 rfl dX1_readItem_1 ?_
  have lp2 : ∀ (fu i : Nat) (a1 : Nat) (w1 : Int32) (r1 : Nat → Int32) (σ : Hp), i ≤ 6 → 6 + 1 ≤ i + fu → (itS (A 5) ln m (a, F 25, A 26) i = (a1, w1, r1)) → MW D h ad σ0 (upd (upd F 24 (nI a1)) 25 w1) (uA A 26 r1) σ → G z cX1_readItem RX1 3 rX1_readItem D b σ 0 0 2 [some (.ref h), some (.int (nI i)), none] [] := by
    intro fu
    induction fu with
    | zero => intros; omega
    | succ fu ih2 =>
      intro i a1 w1 r1 σ hi hf hit hM
      refine g_iload_n rfl ld_1 3 rfl dX1_readItem_2 ?_
      refine g_bipush (v := 6) (by decide) 5 rfl dX1_readItem_3 ?_
      refine g_icmp_geN (a := i) (c := 6) rfl (show (6 : Int32) = nI 6 from rfl) (by omega) (by omega) 102 8 rfl (by decide) dX1_readItem_5 (fun c5 => ?_) (fun c5 => ?_)
      · have hit6 : itS (A 5) ln m (a, F 25, A 26) 6 = (a1, w1, r1) := by first | (have e : i = 6 := (by omega); rw [← e]; exact hit) | exact (it_stay (by rw [hit]; exact c14) 6 (by omega)).trans hit
        have hle := it_le (t := A 5) (m := m) (s0 := (a, F 25, A 26)) (i := 6) hal hln240
        rw [hit6] at hle
        dsimp only at hle
        refine g_iconst (v := 0) (by decide) 103 rfl dX1_readItem_102 ?_
        refine g_istore_n rfl sa_1 104 rfl dX1_readItem_103 ?_
        have lp104 : ∀ (fu j : Nat) (w2 : Int32) (σ : Hp), j ≤ m → m + 1 ≤ j + fu → (w2 = mwS r1 m a1 w1 j) → MW D h ad σ0 (upd (upd F 24 (nI a1)) 25 w2) (uA A 26 r1) σ → G z cX1_readItem RX1 3 rX1_readItem D b σ 0 0 104 [some (.ref h), some (.int (nI j)), none] [] := by
          intro fu
          induction fu with
          | zero => intros; omega
          | succ fu ih104 =>
            intro j w2 σ hj hf hmw hM
            refine g_iload_n rfl ld_1 105 rfl dX1_readItem_104 ?_
            refine g_aload_n rfl ld_0 106 rfl dX1_readItem_105 ?_
            refine g_getf (kf := 27) (v := .int (nI m)) hM.1 (by rw [← hm]; rfl) rfl in_X1 (by decide) q1688 rfl 109 rfl dX1_readItem_106 ?_
            refine g_icmp_geN (a := j) (c := m) rfl rfl (by omega) (by omega) 162 112 rfl (by decide) dX1_readItem_109 (fun c109 => ?_) (fun c109 => ?_)
            · have hmw6 : w2 = mwS r1 m a1 w1 m := by first | (have e : j = m := (by omega); rw [← e]; rw [e] at hmw ⊢; exact hmw) | exact hmw.trans (mw_stay (fun e => c118 (hmw.trans e)) m (by omega)).symm
              refine g_aload_n rfl ld_0 163 rfl dX1_readItem_162 ?_
              refine g_dup rfl 164 rfl dX1_readItem_163 ?_
              refine g_getf (kf := 27) (v := .int (nI m)) hM.1 (by rw [← hm]; rfl) rfl in_X1 (by decide) q1688 rfl 167 rfl dX1_readItem_164 ?_
              refine g_iconst (v := 1) (by decide) 168 rfl dX1_readItem_167 ?_
              refine g_iaddN (a := m) (c := 1) rfl (show (1 : Int32) = nI 1 from rfl) 169 rfl dX1_readItem_168 ?_
              refine gm_put (v := nI (m + 1)) 27 (by decide) hM q1688 172 rfl dX1_readItem_169 (fun σ hM => ?_)
              have e4 : itemO (A 5) ln m (a, F 25, A 26) = (a1, w2, r1) := by rw [itemO, hit6]; dsimp only; rw [← hmw6]
              exact g_vret hR (Nat.le_of_ble_eq_true rfl) (Nat.le_of_ble_eq_true rfl) ⟨rfl, by rw [e4]; exact hM⟩ dX1_readItem_172
            · refine g_aload_n rfl ld_0 113 rfl dX1_readItem_112 ?_
              have g9 : (upd (upd F 24 (nI a1)) 25 w2) 25 = w2 := (upd_s _ _ _)
              refine g_getf (kf := 25) (v := .int w2) hM.1 (mfs_get (by decide) g9) rfl in_X1 (by decide) q1686 rfl 116 rfl dX1_readItem_113 ?_
              refine g_bipush (v := -106) (by decide) 118 rfl dX1_readItem_116 ?_
              refine g_icmp_ne 162 121 rfl (by decide) dX1_readItem_118 (fun c118 => ?_) (fun c118 => ?_)
              · have hmw6 : w2 = mwS r1 m a1 w1 m := by first | (have e : j = m := (by omega); rw [← e]; rw [e] at hmw ⊢; exact hmw) | exact hmw.trans (mw_stay (fun e => c118 (hmw.trans e)) m (by omega)).symm
                refine g_aload_n rfl ld_0 163 rfl dX1_readItem_162 ?_
                refine g_dup rfl 164 rfl dX1_readItem_163 ?_
                refine g_getf (kf := 27) (v := .int (nI m)) hM.1 (by rw [← hm]; rfl) rfl in_X1 (by decide) q1688 rfl 167 rfl dX1_readItem_164 ?_
                refine g_iconst (v := 1) (by decide) 168 rfl dX1_readItem_167 ?_
                refine g_iaddN (a := m) (c := 1) rfl (show (1 : Int32) = nI 1 from rfl) 169 rfl dX1_readItem_168 ?_
                refine gm_put (v := nI (m + 1)) 27 (by decide) hM q1688 172 rfl dX1_readItem_169 (fun σ hM => ?_)
                have e4 : itemO (A 5) ln m (a, F 25, A 26) = (a1, w2, r1) := by rw [itemO, hit6]; dsimp only; rw [← hmw6]
                exact g_vret hR (Nat.le_of_ble_eq_true rfl) (Nat.le_of_ble_eq_true rfl) ⟨rfl, by rw [e4]; exact hM⟩ dX1_readItem_172
              · have hw1 := mw_wr (by omega) _ (hmw.symm.trans c118)
                have hle2 := hle.2.2 hw1
                refine g_aload_n rfl ld_0 122 rfl dX1_readItem_121 ?_
                refine g_getf (kf := 26) (v := .ref (ad 26)) hM.1 rfl rfl in_X1 (by decide) q1687 rfl 125 rfl dX1_readItem_122 ?_
                refine g_bipush (v := 7) (by decide) 127 rfl dX1_readItem_125 ?_
                refine g_aload_n rfl ld_0 128 rfl dX1_readItem_127 ?_
                refine g_getf (kf := 27) (v := .int (nI m)) hM.1 (by rw [← hm]; rfl) rfl in_X1 (by decide) q1688 rfl 131 rfl dX1_readItem_128 ?_
                refine g_imulN (a := 7) (c := m) (show (7 : Int32) = nI 7 from rfl) rfl 132 rfl dX1_readItem_131 ?_
                refine g_aload_n rfl ld_0 133 rfl dX1_readItem_132 ?_
                refine g_getf (kf := 26) (v := .ref (ad 26)) hM.1 rfl rfl in_X1 (by decide) q1687 rfl 136 rfl dX1_readItem_133 ?_
                refine g_bipush (v := 7) (by decide) 138 rfl dX1_readItem_136 ?_
                refine g_iload_n rfl ld_1 139 rfl dX1_readItem_138 ?_
                refine g_imulN (a := 7) (c := j) (show (7 : Int32) = nI 7 from rfl) rfl 140 rfl dX1_readItem_139 ?_
                refine g_callS (As := [.ref (ad 26), .int (nI (7 * m)), .ref (ad 26), .int (nI (7 * j))]) (rest := []) (c_X1_doMeet z.l D b (f := r1) (g := r1) hM.a26 hM.a26 (7 * m) (7 * j) (by omega) (by omega) (by omega) (by omega)) k_X1_doMeet q1766 rfl rfl (Nat.le_of_ble_eq_true rfl) ⟨Nat.le_of_ble_eq_true rfl, Nat.le_of_ble_eq_true rfl⟩ 0 0 (Nat.le_of_ble_eq_true rfl) (Nat.le_of_ble_eq_true rfl) (Nat.le_of_ble_eq_true rfl) (Nat.le_of_ble_eq_true rfl) 143 rfl dX1_readItem_140 (fun v σ1 hq => ?_)
                obtain ⟨rfl, rfl⟩ := hq
                refine g_if_eqB 156 146 rfl (by decide) dX1_readItem_143 (fun c143 => ?_) (fun c143 => ?_)
                · refine g_iinc (v := nI (j + 1)) ld_1 (nI_1 _) sa_1 159 rfl dX1_readItem_156 ?_
                  refine g_goto 104 (by decide) dX1_readItem_159 ?_
                  exact ih104 (j + 1) w2 σ (by omega) (by omega) (by rw [mwS, ← hmw]; rw [if_neg (fun q => Bool.noConfusion (c143.symm.trans q.2))]) hM
                · refine g_aload_n rfl ld_0 147 rfl dX1_readItem_146 ?_
                  refine g_aload_n rfl ld_0 148 rfl dX1_readItem_147 ?_
                  have g9 : (upd (upd F 24 (nI a1)) 25 w2) 24 = nI a1 := (Eq.trans (upd_n (by decide)) (upd_s _ _ _))
                  refine g_getf (kf := 24) (v := .int (nI a1)) hM.1 (mfs_get (by decide) g9) rfl in_X1 (by decide) q1685 rfl 151 rfl dX1_readItem_148 ?_
                  refine g_iconst (v := 1) (by decide) 152 rfl dX1_readItem_151 ?_
                  refine g_isubN (a := a1) (c := 1) rfl (show (1 : Int32) = nI 1 from rfl) (by omega) 153 rfl dX1_readItem_152 ?_
                  refine g_callV (As := [.int (nI (a1 - 1))]) (rest := []) (ci := 1) (c_X1_fails z.l D b hM (nI (a1 - 1))) k_X1_fails q1991 hM.1 rfl rfl rfl rfl (Nat.le_of_ble_eq_true rfl) ⟨Nat.le_of_ble_eq_true rfl, Nat.le_of_ble_eq_true rfl⟩ 0 0 (Nat.le_of_ble_eq_true rfl) (Nat.le_of_ble_eq_true rfl) (Nat.le_of_ble_eq_true rfl) (Nat.le_of_ble_eq_true rfl) 156 rfl dX1_readItem_153 (fun v σ1 hq => ?_)
                  obtain ⟨rfl, hM⟩ := hq
                  revert σ1
                  intro σ hM
                  have hM : MW D h ad σ0 (upd (upd F 24 (nI a1)) 25 (flR w2 (nI (a1 - 1)))) (uA A 26 r1) σ := by
                    have e9 : upd (upd F 24 (nI a1)) 25 (flR w2 (nI (a1 - 1))) = upd (upd (upd F 24 (nI a1)) 25 w2) 25 (flR w2 (nI (a1 - 1))) := by funext x9; by_cases h9_24 : x9 = 24; (subst h9_24; simp [upd_ap]); by_cases h9_25 : x9 = 25; (subst h9_25; simp [upd_ap]); simp [upd_ap, h9_24, h9_25]
                    rw [e9]; exact hM
                  refine g_iinc (v := nI (j + 1)) ld_1 (nI_1 _) sa_1 159 rfl dX1_readItem_156 ?_
                  refine g_goto 104 (by decide) dX1_readItem_159 ?_
                  have hM : MW D h ad σ0 (upd (upd F 24 (nI a1)) 25 ((flR w2 (nI (a1 - 1))))) (uA A 26 r1) σ := by
                    have e1 : upd (upd F 24 (nI a1)) 25 ((flR w2 (nI (a1 - 1)))) = upd (upd F 24 (nI a1)) 25 (flR w2 (nI (a1 - 1))) := by funext x9; by_cases h9_24 : x9 = 24; (subst h9_24; simp [upd_ap]); by_cases h9_25 : x9 = 25; (subst h9_25; simp [upd_ap]); simp [upd_ap, h9_24, h9_25]
                    rw [e1]; exact hM
                  exact ih104 (j + 1) (flR w2 (nI (a1 - 1))) σ (by omega) (by omega) (by rw [mwS, ← hmw]; rw [if_pos ⟨c118, c143⟩, flR, if_pos c118]) hM
        exact lp104 (m + 1) 0 w1 σ (by omega) (by omega) (rfl) hM
      · have hle := it_le (t := A 5) (m := m) (s0 := (a, F 25, A 26)) (i := i) hal hln240
        rw [hit] at hle
        dsimp only at hle
        refine g_aload_n rfl ld_0 9 rfl dX1_readItem_8 ?_
        have g9 : (upd (upd F 24 (nI a1)) 25 w1) 25 = w1 := (upd_s _ _ _)
        refine g_getf (kf := 25) (v := .int w1) hM.1 (mfs_get (by decide) g9) rfl in_X1 (by decide) q1686 rfl 12 rfl dX1_readItem_9 ?_
        refine g_bipush (v := -106) (by decide) 14 rfl dX1_readItem_12 ?_
        refine g_icmp_ne 102 17 rfl (by decide) dX1_readItem_14 (fun c14 => ?_) (fun c14 => ?_)
        · have hit6 : itS (A 5) ln m (a, F 25, A 26) 6 = (a1, w1, r1) := by first | (have e : i = 6 := (by omega); rw [← e]; exact hit) | exact (it_stay (by rw [hit]; exact c14) 6 (by omega)).trans hit
          have hle := it_le (t := A 5) (m := m) (s0 := (a, F 25, A 26)) (i := 6) hal hln240
          rw [hit6] at hle
          dsimp only at hle
          refine g_iconst (v := 0) (by decide) 103 rfl dX1_readItem_102 ?_
          refine g_istore_n rfl sa_1 104 rfl dX1_readItem_103 ?_
          have lp104 : ∀ (fu j : Nat) (w2 : Int32) (σ : Hp), j ≤ m → m + 1 ≤ j + fu → (w2 = mwS r1 m a1 w1 j) → MW D h ad σ0 (upd (upd F 24 (nI a1)) 25 w2) (uA A 26 r1) σ → G z cX1_readItem RX1 3 rX1_readItem D b σ 0 0 104 [some (.ref h), some (.int (nI j)), none] [] := by
            intro fu
            induction fu with
            | zero => intros; omega
            | succ fu ih104 =>
              intro j w2 σ hj hf hmw hM
              refine g_iload_n rfl ld_1 105 rfl dX1_readItem_104 ?_
              refine g_aload_n rfl ld_0 106 rfl dX1_readItem_105 ?_
              refine g_getf (kf := 27) (v := .int (nI m)) hM.1 (by rw [← hm]; rfl) rfl in_X1 (by decide) q1688 rfl 109 rfl dX1_readItem_106 ?_
              refine g_icmp_geN (a := j) (c := m) rfl rfl (by omega) (by omega) 162 112 rfl (by decide) dX1_readItem_109 (fun c109 => ?_) (fun c109 => ?_)
              · have hmw6 : w2 = mwS r1 m a1 w1 m := by first | (have e : j = m := (by omega); rw [← e]; rw [e] at hmw ⊢; exact hmw) | exact hmw.trans (mw_stay (fun e => c118 (hmw.trans e)) m (by omega)).symm
                refine g_aload_n rfl ld_0 163 rfl dX1_readItem_162 ?_
                refine g_dup rfl 164 rfl dX1_readItem_163 ?_
                refine g_getf (kf := 27) (v := .int (nI m)) hM.1 (by rw [← hm]; rfl) rfl in_X1 (by decide) q1688 rfl 167 rfl dX1_readItem_164 ?_
                refine g_iconst (v := 1) (by decide) 168 rfl dX1_readItem_167 ?_
                refine g_iaddN (a := m) (c := 1) rfl (show (1 : Int32) = nI 1 from rfl) 169 rfl dX1_readItem_168 ?_
                refine gm_put (v := nI (m + 1)) 27 (by decide) hM q1688 172 rfl dX1_readItem_169 (fun σ hM => ?_)
                have e4 : itemO (A 5) ln m (a, F 25, A 26) = (a1, w2, r1) := by rw [itemO, hit6]; dsimp only; rw [← hmw6]
                exact g_vret hR (Nat.le_of_ble_eq_true rfl) (Nat.le_of_ble_eq_true rfl) ⟨rfl, by rw [e4]; exact hM⟩ dX1_readItem_172
              · refine g_aload_n rfl ld_0 113 rfl dX1_readItem_112 ?_
                have g9 : (upd (upd F 24 (nI a1)) 25 w2) 25 = w2 := (upd_s _ _ _)
                refine g_getf (kf := 25) (v := .int w2) hM.1 (mfs_get (by decide) g9) rfl in_X1 (by decide) q1686 rfl 116 rfl dX1_readItem_113 ?_
                refine g_bipush (v := -106) (by decide) 118 rfl dX1_readItem_116 ?_
                refine g_icmp_ne 162 121 rfl (by decide) dX1_readItem_118 (fun c118 => ?_) (fun c118 => ?_)
                · have hmw6 : w2 = mwS r1 m a1 w1 m := by first | (have e : j = m := (by omega); rw [← e]; rw [e] at hmw ⊢; exact hmw) | exact hmw.trans (mw_stay (fun e => c118 (hmw.trans e)) m (by omega)).symm
                  refine g_aload_n rfl ld_0 163 rfl dX1_readItem_162 ?_
                  refine g_dup rfl 164 rfl dX1_readItem_163 ?_
                  refine g_getf (kf := 27) (v := .int (nI m)) hM.1 (by rw [← hm]; rfl) rfl in_X1 (by decide) q1688 rfl 167 rfl dX1_readItem_164 ?_
                  refine g_iconst (v := 1) (by decide) 168 rfl dX1_readItem_167 ?_
                  refine g_iaddN (a := m) (c := 1) rfl (show (1 : Int32) = nI 1 from rfl) 169 rfl dX1_readItem_168 ?_
                  refine gm_put (v := nI (m + 1)) 27 (by decide) hM q1688 172 rfl dX1_readItem_169 (fun σ hM => ?_)
                  have e4 : itemO (A 5) ln m (a, F 25, A 26) = (a1, w2, r1) := by rw [itemO, hit6]; dsimp only; rw [← hmw6]
                  exact g_vret hR (Nat.le_of_ble_eq_true rfl) (Nat.le_of_ble_eq_true rfl) ⟨rfl, by rw [e4]; exact hM⟩ dX1_readItem_172
                · have hw1 := mw_wr (by omega) _ (hmw.symm.trans c118)
                  have hle2 := hle.2.2 hw1
                  refine g_aload_n rfl ld_0 122 rfl dX1_readItem_121 ?_
                  refine g_getf (kf := 26) (v := .ref (ad 26)) hM.1 rfl rfl in_X1 (by decide) q1687 rfl 125 rfl dX1_readItem_122 ?_
                  refine g_bipush (v := 7) (by decide) 127 rfl dX1_readItem_125 ?_
                  refine g_aload_n rfl ld_0 128 rfl dX1_readItem_127 ?_
                  refine g_getf (kf := 27) (v := .int (nI m)) hM.1 (by rw [← hm]; rfl) rfl in_X1 (by decide) q1688 rfl 131 rfl dX1_readItem_128 ?_
                  refine g_imulN (a := 7) (c := m) (show (7 : Int32) = nI 7 from rfl) rfl 132 rfl dX1_readItem_131 ?_
                  refine g_aload_n rfl ld_0 133 rfl dX1_readItem_132 ?_
                  refine g_getf (kf := 26) (v := .ref (ad 26)) hM.1 rfl rfl in_X1 (by decide) q1687 rfl 136 rfl dX1_readItem_133 ?_
                  refine g_bipush (v := 7) (by decide) 138 rfl dX1_readItem_136 ?_
                  refine g_iload_n rfl ld_1 139 rfl dX1_readItem_138 ?_
                  refine g_imulN (a := 7) (c := j) (show (7 : Int32) = nI 7 from rfl) rfl 140 rfl dX1_readItem_139 ?_
                  refine g_callS (As := [.ref (ad 26), .int (nI (7 * m)), .ref (ad 26), .int (nI (7 * j))]) (rest := []) (c_X1_doMeet z.l D b (f := r1) (g := r1) hM.a26 hM.a26 (7 * m) (7 * j) (by omega) (by omega) (by omega) (by omega)) k_X1_doMeet q1766 rfl rfl (Nat.le_of_ble_eq_true rfl) ⟨Nat.le_of_ble_eq_true rfl, Nat.le_of_ble_eq_true rfl⟩ 0 0 (Nat.le_of_ble_eq_true rfl) (Nat.le_of_ble_eq_true rfl) (Nat.le_of_ble_eq_true rfl) (Nat.le_of_ble_eq_true rfl) 143 rfl dX1_readItem_140 (fun v σ1 hq => ?_)
                  obtain ⟨rfl, rfl⟩ := hq
                  refine g_if_eqB 156 146 rfl (by decide) dX1_readItem_143 (fun c143 => ?_) (fun c143 => ?_)
                  · refine g_iinc (v := nI (j + 1)) ld_1 (nI_1 _) sa_1 159 rfl dX1_readItem_156 ?_
                    refine g_goto 104 (by decide) dX1_readItem_159 ?_
                    exact ih104 (j + 1) w2 σ (by omega) (by omega) (by rw [mwS, ← hmw]; rw [if_neg (fun q => Bool.noConfusion (c143.symm.trans q.2))]) hM
                  · refine g_aload_n rfl ld_0 147 rfl dX1_readItem_146 ?_
                    refine g_aload_n rfl ld_0 148 rfl dX1_readItem_147 ?_
                    have g9 : (upd (upd F 24 (nI a1)) 25 w2) 24 = nI a1 := (Eq.trans (upd_n (by decide)) (upd_s _ _ _))
                    refine g_getf (kf := 24) (v := .int (nI a1)) hM.1 (mfs_get (by decide) g9) rfl in_X1 (by decide) q1685 rfl 151 rfl dX1_readItem_148 ?_
                    refine g_iconst (v := 1) (by decide) 152 rfl dX1_readItem_151 ?_
                    refine g_isubN (a := a1) (c := 1) rfl (show (1 : Int32) = nI 1 from rfl) (by omega) 153 rfl dX1_readItem_152 ?_
                    refine g_callV (As := [.int (nI (a1 - 1))]) (rest := []) (ci := 1) (c_X1_fails z.l D b hM (nI (a1 - 1))) k_X1_fails q1991 hM.1 rfl rfl rfl rfl (Nat.le_of_ble_eq_true rfl) ⟨Nat.le_of_ble_eq_true rfl, Nat.le_of_ble_eq_true rfl⟩ 0 0 (Nat.le_of_ble_eq_true rfl) (Nat.le_of_ble_eq_true rfl) (Nat.le_of_ble_eq_true rfl) (Nat.le_of_ble_eq_true rfl) 156 rfl dX1_readItem_153 (fun v σ1 hq => ?_)
                    obtain ⟨rfl, hM⟩ := hq
                    revert σ1
                    intro σ hM
                    have hM : MW D h ad σ0 (upd (upd F 24 (nI a1)) 25 (flR w2 (nI (a1 - 1)))) (uA A 26 r1) σ := by
                      have e9 : upd (upd F 24 (nI a1)) 25 (flR w2 (nI (a1 - 1))) = upd (upd (upd F 24 (nI a1)) 25 w2) 25 (flR w2 (nI (a1 - 1))) := by funext x9; by_cases h9_24 : x9 = 24; (subst h9_24; simp [upd_ap]); by_cases h9_25 : x9 = 25; (subst h9_25; simp [upd_ap]); simp [upd_ap, h9_24, h9_25]
                      rw [e9]; exact hM
                    refine g_iinc (v := nI (j + 1)) ld_1 (nI_1 _) sa_1 159 rfl dX1_readItem_156 ?_
                    refine g_goto 104 (by decide) dX1_readItem_159 ?_
                    have hM : MW D h ad σ0 (upd (upd F 24 (nI a1)) 25 ((flR w2 (nI (a1 - 1))))) (uA A 26 r1) σ := by
                      have e1 : upd (upd F 24 (nI a1)) 25 ((flR w2 (nI (a1 - 1)))) = upd (upd F 24 (nI a1)) 25 (flR w2 (nI (a1 - 1))) := by funext x9; by_cases h9_24 : x9 = 24; (subst h9_24; simp [upd_ap]); by_cases h9_25 : x9 = 25; (subst h9_25; simp [upd_ap]); simp [upd_ap, h9_24, h9_25]
                      rw [e1]; exact hM
                    exact ih104 (j + 1) (flR w2 (nI (a1 - 1))) σ (by omega) (by omega) (by rw [mwS, ← hmw]; rw [if_pos ⟨c118, c143⟩, flR, if_pos c118]) hM
          exact lp104 (m + 1) 0 w1 σ (by omega) (by omega) (rfl) hM
        · have hle2 := hle.2.2 c14
          refine g_aload_n rfl ld_0 18 rfl dX1_readItem_17 ?_
          refine g_iload_n rfl ld_1 19 rfl dX1_readItem_18 ?_
          have hrc := rc_le (t := A 5) (m := m) (k := i) (s := (a1, w1, r1)) (by show a1 ≤ ln; omega)
          refine g_callV (As := [.int (nI i)]) (rest := []) (ci := 1) (v_X1_readCoordinate z.l D b hM (w5 := A 5) rfl (w26 := r1) rfl ln hln hln240 a1 rfl (by omega) m hm (by omega) i (by omega)) k_X1_readCoordinate q1999 hM.1 rfl rfl rfl rfl (Nat.le_of_ble_eq_true rfl) ⟨Nat.le_of_ble_eq_true rfl, Nat.le_of_ble_eq_true rfl⟩ 0 0 (Nat.le_of_ble_eq_true rfl) (Nat.le_of_ble_eq_true rfl) (Nat.le_of_ble_eq_true rfl) (Nat.le_of_ble_eq_true rfl) 22 rfl dX1_readItem_19 (fun v σ1 hq => ?_)
          obtain ⟨rfl, hM⟩ := hq
          revert σ1
          intro σ hM
          have hM : MW D h ad σ0 (upd (upd (upd (upd F 24 (nI a1)) 25 w1) 24 (nI (rcO (A 5) ln m i (a1, w1, r1)).1)) 25 ((rcO (A 5) ln m i (a1, w1, r1)).2.1)) (uA A 26 ((rcO (A 5) ln m i (a1, w1, r1)).2.2)) σ := by
            have e9 : uA A 26 ((rcO (A 5) ln m i (a1, w1, r1)).2.2) = uA (uA A 26 r1) 26 ((rcO (A 5) ln m i (a1, w1, r1)).2.2) := by funext x9; by_cases h9_26 : x9 = 26; (subst h9_26; simp [uA_ap]); simp [uA_ap, h9_26]
            rw [e9]; exact hM
          have hM : MW D h ad σ0 (upd (upd F 24 (nI (rcO (A 5) ln m i (a1, w1, r1)).1)) 25 ((rcO (A 5) ln m i (a1, w1, r1)).2.1)) (uA A 26 ((rcO (A 5) ln m i (a1, w1, r1)).2.2)) σ := by
            have e9 : upd (upd F 24 (nI (rcO (A 5) ln m i (a1, w1, r1)).1)) 25 ((rcO (A 5) ln m i (a1, w1, r1)).2.1) = upd (upd (upd (upd F 24 (nI a1)) 25 w1) 24 (nI (rcO (A 5) ln m i (a1, w1, r1)).1)) 25 ((rcO (A 5) ln m i (a1, w1, r1)).2.1) := by funext x9; by_cases h9_24 : x9 = 24; (subst h9_24; simp [upd_ap]); by_cases h9_25 : x9 = 25; (subst h9_25; simp [upd_ap]); simp [upd_ap, h9_24, h9_25]
            rw [e9]; exact hM
          obtain ⟨⟨ra, rw9, rr⟩, hr⟩ : ∃ r9 : RS, (rcO (A 5) ln m i (a1, w1, r1)) = r9 := ⟨_, rfl⟩
          rw [hr] at hM hrc
          dsimp only at hM hrc
          have j44 : ∀ y : Int32, y = sepR i → G z cX1_readItem RX1 3 rX1_readItem D b σ 0 0 44 [some (.ref h), some (.int (nI i)), none] [.int y] := by
            intro y hy
            refine g_istore_n rfl sa_2 45 rfl dX1_readItem_44 ?_
            refine g_aload_n rfl ld_0 46 rfl dX1_readItem_45 ?_
            have g9 : (upd (upd F 24 (nI ra)) 25 rw9) 25 = rw9 := (upd_s _ _ _)
            refine g_getf (kf := 25) (v := .int rw9) hM.1 (mfs_get (by decide) g9) rfl in_X1 (by decide) q1686 rfl 49 rfl dX1_readItem_46 ?_
            refine g_bipush (v := -106) (by decide) 51 rfl dX1_readItem_49 ?_
            refine g_icmp_ne 86 54 rfl (by decide) dX1_readItem_51 (fun c51 => ?_) (fun c51 => ?_)
            · refine g_aload_n rfl ld_0 87 rfl dX1_readItem_86 ?_
              refine g_dup rfl 88 rfl dX1_readItem_87 ?_
              have g9 : (upd (upd F 24 (nI ra)) 25 rw9) 24 = nI ra := (Eq.trans (upd_n (by decide)) (upd_s _ _ _))
              refine g_getf (kf := 24) (v := .int (nI ra)) hM.1 (mfs_get (by decide) g9) rfl in_X1 (by decide) q1685 rfl 91 rfl dX1_readItem_88 ?_
              refine g_iconst (v := 1) (by decide) 92 rfl dX1_readItem_91 ?_
              refine g_iaddN (a := ra) (c := 1) rfl (show (1 : Int32) = nI 1 from rfl) 93 rfl dX1_readItem_92 ?_
              have hM : MW D h ad σ0 (upd (upd F 25 rw9) 24 (nI ra)) (uA A 26 rr) σ := by
                have e9 : upd (upd F 25 rw9) 24 (nI ra) = upd (upd F 24 (nI ra)) 25 rw9 := by funext x9; by_cases h9 : x9 = 24 <;> simp [upd_ap, h9]
                rw [e9]; exact hM
              refine gm_putU (v := nI (ra + 1)) 24 (by decide) hM q1685 96 rfl dX1_readItem_93 (fun σ hM => ?_)
              refine g_iinc (v := nI (i + 1)) ld_1 (nI_1 _) sa_1 99 rfl dX1_readItem_96 ?_
              refine g_goto 2 (by decide) dX1_readItem_99 ?_
              refine G_lv dr_2 ?_
              have hM : MW D h ad σ0 (upd (upd F 24 (nI (ra + 1))) 25 rw9) (uA A 26 rr) σ := by
                have e1 : upd (upd F 24 (nI (ra + 1))) 25 rw9 = upd (upd F 25 rw9) 24 (nI (ra + 1)) := by funext x9; by_cases h9_24 : x9 = 24; (subst h9_24; simp [upd_ap]); by_cases h9_25 : x9 = 25; (subst h9_25; simp [upd_ap]); simp [upd_ap, h9_24, h9_25]
                rw [e1]; exact hM
              exact ih2 (i + 1) (ra + 1) rw9 rr σ (by omega) (by omega) (by rw [itS, hit, if_pos c14, hr, sepO]; dsimp only; congr 2; first | (rw [if_pos ⟨c51, by rintro ⟨p, q⟩; first | exact absurd p (by omega) | exact c75 (q.trans hy.symm)⟩, flR, if_pos c51]) | (rw [if_neg (by rintro ⟨p, q⟩; first | exact c51 p | exact q ⟨by omega, c75.trans hy⟩)])) hM
            · refine g_aload_n rfl ld_0 55 rfl dX1_readItem_54 ?_
              have g9 : (upd (upd F 24 (nI ra)) 25 rw9) 24 = nI ra := (Eq.trans (upd_n (by decide)) (upd_s _ _ _))
              refine g_getf (kf := 24) (v := .int (nI ra)) hM.1 (mfs_get (by decide) g9) rfl in_X1 (by decide) q1685 rfl 58 rfl dX1_readItem_55 ?_
              refine g_aload_n rfl ld_0 59 rfl dX1_readItem_58 ?_
              refine g_getf (kf := 6) (v := .int (nI ln)) hM.1 (by rw [← hln]; rfl) rfl in_X1 (by decide) q1667 rfl 62 rfl dX1_readItem_59 ?_
              refine g_icmp_geN (a := ra) (c := ln) rfl rfl (by omega) (by omega) 78 65 rfl (by decide) dX1_readItem_62 (fun c62 => ?_) (fun c62 => ?_)
              · refine g_aload_n rfl ld_0 79 rfl dX1_readItem_78 ?_
                refine g_aload_n rfl ld_0 80 rfl dX1_readItem_79 ?_
                have g9 : (upd (upd F 24 (nI ra)) 25 rw9) 24 = nI ra := (Eq.trans (upd_n (by decide)) (upd_s _ _ _))
                refine g_getf (kf := 24) (v := .int (nI ra)) hM.1 (mfs_get (by decide) g9) rfl in_X1 (by decide) q1685 rfl 83 rfl dX1_readItem_80 ?_
                refine g_callV (As := [.int (nI ra)]) (rest := []) (ci := 1) (c_X1_fails z.l D b hM (nI ra)) k_X1_fails q1991 hM.1 rfl rfl rfl rfl (Nat.le_of_ble_eq_true rfl) ⟨Nat.le_of_ble_eq_true rfl, Nat.le_of_ble_eq_true rfl⟩ 0 0 (Nat.le_of_ble_eq_true rfl) (Nat.le_of_ble_eq_true rfl) (Nat.le_of_ble_eq_true rfl) (Nat.le_of_ble_eq_true rfl) 86 rfl dX1_readItem_83 (fun v σ1 hq => ?_)
                obtain ⟨rfl, hM⟩ := hq
                revert σ1
                intro σ hM
                have hM : MW D h ad σ0 (upd (upd F 24 (nI ra)) 25 (flR rw9 (nI ra))) (uA A 26 rr) σ := by
                  have e9 : upd (upd F 24 (nI ra)) 25 (flR rw9 (nI ra)) = upd (upd (upd F 24 (nI ra)) 25 rw9) 25 (flR rw9 (nI ra)) := by funext x9; by_cases h9_24 : x9 = 24; (subst h9_24; simp [upd_ap]); by_cases h9_25 : x9 = 25; (subst h9_25; simp [upd_ap]); simp [upd_ap, h9_24, h9_25]
                  rw [e9]; exact hM
                refine g_aload_n rfl ld_0 87 rfl dX1_readItem_86 ?_
                refine g_dup rfl 88 rfl dX1_readItem_87 ?_
                have g9 : (upd (upd F 24 (nI ra)) 25 (flR rw9 (nI ra))) 24 = nI ra := (Eq.trans (upd_n (by decide)) (upd_s _ _ _))
                refine g_getf (kf := 24) (v := .int (nI ra)) hM.1 (mfs_get (by decide) g9) rfl in_X1 (by decide) q1685 rfl 91 rfl dX1_readItem_88 ?_
                refine g_iconst (v := 1) (by decide) 92 rfl dX1_readItem_91 ?_
                refine g_iaddN (a := ra) (c := 1) rfl (show (1 : Int32) = nI 1 from rfl) 93 rfl dX1_readItem_92 ?_
                have hM : MW D h ad σ0 (upd (upd F 25 (flR rw9 (nI ra))) 24 (nI ra)) (uA A 26 rr) σ := by
                  have e9 : upd (upd F 25 (flR rw9 (nI ra))) 24 (nI ra) = upd (upd F 24 (nI ra)) 25 (flR rw9 (nI ra)) := by funext x9; by_cases h9 : x9 = 24 <;> simp [upd_ap, h9]
                  rw [e9]; exact hM
                refine gm_putU (v := nI (ra + 1)) 24 (by decide) hM q1685 96 rfl dX1_readItem_93 (fun σ hM => ?_)
                refine g_iinc (v := nI (i + 1)) ld_1 (nI_1 _) sa_1 99 rfl dX1_readItem_96 ?_
                refine g_goto 2 (by decide) dX1_readItem_99 ?_
                refine G_lv dr_2 ?_
                have hM : MW D h ad σ0 (upd (upd F 24 (nI (ra + 1))) 25 ((flR rw9 (nI ra)))) (uA A 26 rr) σ := by
                  have e1 : upd (upd F 24 (nI (ra + 1))) 25 ((flR rw9 (nI ra))) = upd (upd F 25 (flR rw9 (nI ra))) 24 (nI (ra + 1)) := by funext x9; by_cases h9_24 : x9 = 24; (subst h9_24; simp [upd_ap]); by_cases h9_25 : x9 = 25; (subst h9_25; simp [upd_ap]); simp [upd_ap, h9_24, h9_25]
                  rw [e1]; exact hM
                exact ih2 (i + 1) (ra + 1) (flR rw9 (nI ra)) rr σ (by omega) (by omega) (by rw [itS, hit, if_pos c14, hr, sepO]; dsimp only; congr 2; first | (rw [if_pos ⟨c51, by rintro ⟨p, q⟩; first | exact absurd p (by omega) | exact c75 (q.trans hy.symm)⟩, flR, if_pos c51]) | (rw [if_neg (by rintro ⟨p, q⟩; first | exact c51 p | exact q ⟨by omega, c75.trans hy⟩)])) hM
              · refine g_aload_n rfl ld_0 66 rfl dX1_readItem_65 ?_
                refine g_getf (kf := 5) (v := .ref (ad 5)) hM.1 rfl rfl in_X1 (by decide) q1666 rfl 69 rfl dX1_readItem_66 ?_
                refine g_aload_n rfl ld_0 70 rfl dX1_readItem_69 ?_
                have g9 : (upd (upd F 24 (nI ra)) 25 rw9) 24 = nI ra := (Eq.trans (upd_n (by decide)) (upd_s _ _ _))
                refine g_getf (kf := 24) (v := .int (nI ra)) hM.1 (mfs_get (by decide) g9) rfl in_X1 (by decide) q1685 rfl 73 rfl dX1_readItem_70 ?_
                refine g_iald (j := ra) (f := A 5) hM.a5 rfl (by omega) (by decide) 74 rfl dX1_readItem_73 ?_
                refine g_iload_n rfl ld_2 75 rfl dX1_readItem_74 ?_
                refine g_icmp_eq 86 78 rfl (by decide) dX1_readItem_75 (fun c75 => ?_) (fun c75 => ?_)
                · refine g_aload_n rfl ld_0 87 rfl dX1_readItem_86 ?_
                  refine g_dup rfl 88 rfl dX1_readItem_87 ?_
                  have g9 : (upd (upd F 24 (nI ra)) 25 rw9) 24 = nI ra := (Eq.trans (upd_n (by decide)) (upd_s _ _ _))
                  refine g_getf (kf := 24) (v := .int (nI ra)) hM.1 (mfs_get (by decide) g9) rfl in_X1 (by decide) q1685 rfl 91 rfl dX1_readItem_88 ?_
                  refine g_iconst (v := 1) (by decide) 92 rfl dX1_readItem_91 ?_
                  refine g_iaddN (a := ra) (c := 1) rfl (show (1 : Int32) = nI 1 from rfl) 93 rfl dX1_readItem_92 ?_
                  have hM : MW D h ad σ0 (upd (upd F 25 rw9) 24 (nI ra)) (uA A 26 rr) σ := by
                    have e9 : upd (upd F 25 rw9) 24 (nI ra) = upd (upd F 24 (nI ra)) 25 rw9 := by funext x9; by_cases h9 : x9 = 24 <;> simp [upd_ap, h9]
                    rw [e9]; exact hM
                  refine gm_putU (v := nI (ra + 1)) 24 (by decide) hM q1685 96 rfl dX1_readItem_93 (fun σ hM => ?_)
                  refine g_iinc (v := nI (i + 1)) ld_1 (nI_1 _) sa_1 99 rfl dX1_readItem_96 ?_
                  refine g_goto 2 (by decide) dX1_readItem_99 ?_
                  refine G_lv dr_2 ?_
                  have hM : MW D h ad σ0 (upd (upd F 24 (nI (ra + 1))) 25 rw9) (uA A 26 rr) σ := by
                    have e1 : upd (upd F 24 (nI (ra + 1))) 25 rw9 = upd (upd F 25 rw9) 24 (nI (ra + 1)) := by funext x9; by_cases h9_24 : x9 = 24; (subst h9_24; simp [upd_ap]); by_cases h9_25 : x9 = 25; (subst h9_25; simp [upd_ap]); simp [upd_ap, h9_24, h9_25]
                    rw [e1]; exact hM
                  exact ih2 (i + 1) (ra + 1) rw9 rr σ (by omega) (by omega) (by rw [itS, hit, if_pos c14, hr, sepO]; dsimp only; congr 2; first | (rw [if_pos ⟨c51, by rintro ⟨p, q⟩; first | exact absurd p (by omega) | exact c75 (q.trans hy.symm)⟩, flR, if_pos c51]) | (rw [if_neg (by rintro ⟨p, q⟩; first | exact c51 p | exact q ⟨by omega, c75.trans hy⟩)])) hM
                · refine g_aload_n rfl ld_0 79 rfl dX1_readItem_78 ?_
                  refine g_aload_n rfl ld_0 80 rfl dX1_readItem_79 ?_
                  have g9 : (upd (upd F 24 (nI ra)) 25 rw9) 24 = nI ra := (Eq.trans (upd_n (by decide)) (upd_s _ _ _))
                  refine g_getf (kf := 24) (v := .int (nI ra)) hM.1 (mfs_get (by decide) g9) rfl in_X1 (by decide) q1685 rfl 83 rfl dX1_readItem_80 ?_
                  refine g_callV (As := [.int (nI ra)]) (rest := []) (ci := 1) (c_X1_fails z.l D b hM (nI ra)) k_X1_fails q1991 hM.1 rfl rfl rfl rfl (Nat.le_of_ble_eq_true rfl) ⟨Nat.le_of_ble_eq_true rfl, Nat.le_of_ble_eq_true rfl⟩ 0 0 (Nat.le_of_ble_eq_true rfl) (Nat.le_of_ble_eq_true rfl) (Nat.le_of_ble_eq_true rfl) (Nat.le_of_ble_eq_true rfl) 86 rfl dX1_readItem_83 (fun v σ1 hq => ?_)
                  obtain ⟨rfl, hM⟩ := hq
                  revert σ1
                  intro σ hM
                  have hM : MW D h ad σ0 (upd (upd F 24 (nI ra)) 25 (flR rw9 (nI ra))) (uA A 26 rr) σ := by
                    have e9 : upd (upd F 24 (nI ra)) 25 (flR rw9 (nI ra)) = upd (upd (upd F 24 (nI ra)) 25 rw9) 25 (flR rw9 (nI ra)) := by funext x9; by_cases h9_24 : x9 = 24; (subst h9_24; simp [upd_ap]); by_cases h9_25 : x9 = 25; (subst h9_25; simp [upd_ap]); simp [upd_ap, h9_24, h9_25]
                    rw [e9]; exact hM
                  refine g_aload_n rfl ld_0 87 rfl dX1_readItem_86 ?_
                  refine g_dup rfl 88 rfl dX1_readItem_87 ?_
                  have g9 : (upd (upd F 24 (nI ra)) 25 (flR rw9 (nI ra))) 24 = nI ra := (Eq.trans (upd_n (by decide)) (upd_s _ _ _))
                  refine g_getf (kf := 24) (v := .int (nI ra)) hM.1 (mfs_get (by decide) g9) rfl in_X1 (by decide) q1685 rfl 91 rfl dX1_readItem_88 ?_
                  refine g_iconst (v := 1) (by decide) 92 rfl dX1_readItem_91 ?_
                  refine g_iaddN (a := ra) (c := 1) rfl (show (1 : Int32) = nI 1 from rfl) 93 rfl dX1_readItem_92 ?_
                  have hM : MW D h ad σ0 (upd (upd F 25 (flR rw9 (nI ra))) 24 (nI ra)) (uA A 26 rr) σ := by
                    have e9 : upd (upd F 25 (flR rw9 (nI ra))) 24 (nI ra) = upd (upd F 24 (nI ra)) 25 (flR rw9 (nI ra)) := by funext x9; by_cases h9 : x9 = 24 <;> simp [upd_ap, h9]
                    rw [e9]; exact hM
                  refine gm_putU (v := nI (ra + 1)) 24 (by decide) hM q1685 96 rfl dX1_readItem_93 (fun σ hM => ?_)
                  refine g_iinc (v := nI (i + 1)) ld_1 (nI_1 _) sa_1 99 rfl dX1_readItem_96 ?_
                  refine g_goto 2 (by decide) dX1_readItem_99 ?_
                  refine G_lv dr_2 ?_
                  have hM : MW D h ad σ0 (upd (upd F 24 (nI (ra + 1))) 25 ((flR rw9 (nI ra)))) (uA A 26 rr) σ := by
                    have e1 : upd (upd F 24 (nI (ra + 1))) 25 ((flR rw9 (nI ra))) = upd (upd F 25 (flR rw9 (nI ra))) 24 (nI (ra + 1)) := by funext x9; by_cases h9_24 : x9 = 24; (subst h9_24; simp [upd_ap]); by_cases h9_25 : x9 = 25; (subst h9_25; simp [upd_ap]); simp [upd_ap, h9_24, h9_25]
                    rw [e1]; exact hM
                  exact ih2 (i + 1) (ra + 1) (flR rw9 (nI ra)) rr σ (by omega) (by omega) (by rw [itS, hit, if_pos c14, hr, sepO]; dsimp only; congr 2; first | (rw [if_pos ⟨c51, by rintro ⟨p, q⟩; first | exact absurd p (by omega) | exact c75 (q.trans hy.symm)⟩, flR, if_pos c51]) | (rw [if_neg (by rintro ⟨p, q⟩; first | exact c51 p | exact q ⟨by omega, c75.trans hy⟩)])) hM
          refine g_iload_n rfl ld_1 23 rfl dX1_readItem_22 ?_
          refine g_iconst (v := 2) (by decide) 24 rfl dX1_readItem_23 ?_
          refine g_icmp_neN (a := i) (c := 2) rfl (show (2 : Int32) = nI 2 from rfl) (by omega) (by omega) 32 27 rfl (by decide) dX1_readItem_24 (fun c24 => ?_) (fun c24 => ?_)
          · refine g_iload_n rfl ld_1 33 rfl dX1_readItem_32 ?_
            refine g_iconst (v := 5) (by decide) 34 rfl dX1_readItem_33 ?_
            refine g_icmp_neN (a := i) (c := 5) rfl (show (5 : Int32) = nI 5 from rfl) (by omega) (by omega) 42 37 rfl (by decide) dX1_readItem_34 (fun c34 => ?_) (fun c34 => ?_)
            · refine g_bipush (v := 44) (by decide) 44 rfl dX1_readItem_42 ?_
              exact j44 ((44 : Int32)) (by unfold sepR; first | rw [if_pos c24] | rw [if_neg c24, if_pos c34] | rw [if_neg c24, if_neg c34])
            · refine g_bipush (v := 59) (by decide) 39 rfl dX1_readItem_37 ?_
              refine g_goto 44 (by decide) dX1_readItem_39 ?_
              exact j44 ((59 : Int32)) (by unfold sepR; first | rw [if_pos c24] | rw [if_neg c24, if_pos c34] | rw [if_neg c24, if_neg c34])
          · refine g_bipush (v := 58) (by decide) 29 rfl dX1_readItem_27 ?_
            refine g_goto 44 (by decide) dX1_readItem_29 ?_
            exact j44 ((58 : Int32)) (by unfold sepR; first | rw [if_pos c24] | rw [if_neg c24, if_pos c34] | rw [if_neg c24, if_neg c34])
  have hM : MW D h ad σ0 (upd (upd F 24 (nI a)) 25 ((F 25))) (uA A 26 ((A 26))) σ := by
    have e1 : upd (upd F 24 (nI a)) 25 ((F 25)) = F := by funext x9; by_cases h9_24 : x9 = 24; (subst h9_24; simp [upd_ap, ha]); by_cases h9_25 : x9 = 25; (subst h9_25; simp [upd_ap, ha]); simp [upd_ap, h9_24, h9_25]
    have e2 : uA A 26 ((A 26)) = A := by exact uA_self A 26
    rw [e1, e2]; exact hM
  exact lp2 (6 + 1) 0 a (F 25) (A 26) σ (by omega) (by omega) (rfl) hM
theorem v_X1_readItem (l : Launch) (D : DD) (b : Nat) {h : Nat} {ad : Nat → Nat} {σ0 : Hp} {F : Nat → Int32} {A : Nat → Nat → Int32} {σ : Hp} (hM : MW D h ad σ0 F A σ) {w5 : Nat → Int32} (hw5 : A 5 = w5) {w26 : Nat → Int32} (hw26 : A 26 = w26) (ln : Nat) (hln : F 6 = nI ln) (hln240 : ln ≤ 240) (a : Nat) (ha : F 24 = nI a) (hal : a ≤ ln) (m : Nat) (hm : F 27 = nI m) (hm12 : m < 12) : CM l yX1_readItem cX1_readItem 3 none rX1_readItem D b [.ref h] σ (PV (fun σ' => MW D h ad σ0 (upd (upd (upd F 24 (nI (itemO (w5) ln m (a, F 25, w26)).1)) 25 (itemO (w5) ln m (a, F 25, w26)).2.1) 27 (nI (m + 1))) (uA A 26 (itemO (w5) ln m (a, F 25, w26)).2.2) σ')) := by
  subst hw5
  subst hw26
  exact c_X1_readItem l D b hM ln hln hln240 a ha hal m hm hm12
