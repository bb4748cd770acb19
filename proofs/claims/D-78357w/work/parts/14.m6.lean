/-! THE REFERENCE, part 6: the shortest cycle, levels -/
set_option maxRecDepth 100000
def manyC (w : Nat → Int32) (s : Nat) : Nat := if isBx w (nI s) = true then coN w s else 99
/-- boxes 11 .. i looked at: the start, and the least length -/
def lcS (w : Nat → Int32) (i : Nat) : Option Nat × Nat := if i < 12 then
    (if manyC w i ≤ (lcS w (i + 1)).2 ∧ manyC w i < 99 then some i else (lcS w (i + 1)).1, if manyC w i < (lcS w (i + 1)).2 then manyC w i else (lcS w (i + 1)).2)
  else (none, 99)
termination_by 12 - i
theorem lcS_e {w : Nat → Int32} {i : Nat} (h : 12 ≤ i) : lcS w i = (none, 99) := by rw [lcS, if_neg (by omega)]
theorem lcS_s {w : Nat → Int32} {i : Nat} (h : i < 12) : lcS w i = (if manyC w i ≤ (lcS w (i + 1)).2 ∧ manyC w i < 99 then some i else (lcS w (i + 1)).1, if manyC w i < (lcS w (i + 1)).2 then manyC w i else (lcS w (i + 1)).2) := by rw [lcS, if_pos h]
theorem coN_le (w : Nat → Int32) (s : Nat) : coN w s ≤ 99 := coP_le _ _ _ _
theorem lcS_le (w : Nat → Int32) : ∀ n i, 12 ≤ i + n → (lcS w i).2 ≤ 99 ∧ ∀ s, (lcS w i).1 = some s → s < 12
  | 0, i, h => by rw [lcS_e (by omega)]; exact ⟨Nat.le_refl _, fun s h => by simp at h⟩
  | n + 1, i, h => by
    by_cases hi : i < 12
    · have ih := lcS_le w n (i + 1) (by omega)
      rw [lcS_s hi]
      refine ⟨?_, fun s hs => ?_⟩
      · show (if manyC w i < (lcS w (i + 1)).2 then manyC w i else (lcS w (i + 1)).2) ≤ 99
        split <;> omega
      · dsimp only at hs
        split at hs
        · cases hs; exact hi
        · exact ih.2 s hs
    · rw [lcS_e (by omega)]; exact ⟨Nat.le_refl _, fun s h => by simp at h⟩
def oI32 (o : Option Nat) : Int32 := match o with | none => -106 | some s => nI s
def rg (w : Nat → Int32) (s L : Nat) : Nat → Nat
  | 0 => s
  | k + 1 => ffN (fun q => isBx w (nI q) && bbR w q (rg w s L k) && decide (measN w s q = L - (k + 1))) 12 0
theorem rg_p {w : Nat → Int32} {s L k : Nat} (h : 1 ≤ k) : rg w s L k = ffN (fun q => isBx w (nI q) && bbR w q (rg w s L (k - 1)) && decide (measN w s q = L - k)) 12 0 := by
  obtain ⟨j, rfl⟩ : ∃ j, k = j + 1 := ⟨k - 1, by omega⟩
  rw [rg]; rfl
def lcL (w : Nat → Int32) : Nat := match (lcS w 0).1 with | none => 0 | some _ => (lcS w 0).2
def lcRg (w : Nat → Int32) (k : Nat) : Nat := match (lcS w 0).1 with | none => 0 | some s => rg w s (lcS w 0).2 k
/-- what the search for the ring asks (shown for every w later) -/
def ringOk (w : Nat → Int32) : Prop := ∀ s, (lcS w 0).1 = some s → 1 ≤ (lcS w 0).2 ∧ (lcS w 0).2 ≤ 12 ∧ ∀ k, k < (lcS w 0).2 → rg w s (lcS w 0).2 k < 12
theorem nI_n106 {s : Nat} (h : s < 2 ^ 31) : ¬ nI s = -106 := fun e => nI_pos h (by rw [e]; decide)
def rX1_layCycle : Room := { frames := 7, cells := 0, slots := 0, locals := 155 }
theorem k_X1_layCycle : CV yX1_layCycle cX1_layCycle 5 (some .int) 0 := ⟨q1862, qs55, q81, q1863, by decide +kernel, by decide +kernel, by decide +kernel⟩
set_option maxHeartbeats 2000000 in
theorem c_X1_layCycle (l : Launch) (D : DD) (b : Nat) {h : Nat} {ad : Nat → Nat} {σ0 : Hp} {F : Nat → Int32} {A : Nat → Nat → Int32} {σ : Hp} (hM : MW D h ad σ0 F A σ) (hRing : ringOk (A 0)) : CM l yX1_layCycle cX1_layCycle 5 (some .int) rX1_layCycle D b [.ref h] σ (PI (fun r σ' => ∃ s8 s9 : Nat → Int32, r = nI (lcL (A 0)) ∧ (∀ k, k < lcL (A 0) → s9 k = nI (lcRg (A 0) k)) ∧ MW D h ad σ0 F (uA (uA A 8 s8) 9 s9) σ')) := by
  refine CM_of [some (.ref h), none, none, none, none] RX1 (by decide) rfl (cat_all rfl) (Nat.le_of_ble_eq_true rfl) rfl ?_
  intro z hz hR hnm
  refine g_bipush (v := -106) (by decide) 2 rfl dX1_layCycle_0 ?_
  refine g_istore_n rfl sa_1 3 rfl dX1_layCycle_2 ?_
  refine g_bipush (v := 99) (by decide) 5 rfl dX1_layCycle_3 ?_
  refine g_istore_n rfl sa_2 6 rfl dX1_layCycle_5 ?_
  refine g_bipush (v := 11) (by decide) 8 rfl dX1_layCycle_6 ?_
  refine g_istore_n rfl sa_3 9 rfl dX1_layCycle_8 ?_
  have lp9 : ∀ (i : Nat) (s8 : Nat → Int32) (x1 : Int32) (v2 : Nat) (σ : Hp), i ≤ 12 → (x1 = oI32 (lcS (A 0) i).1) → (v2 = (lcS (A 0) i).2) → MW D h ad σ0 F (uA A 8 s8) σ → G z cX1_layCycle RX1 5 rX1_layCycle D b σ 0 0 9 [some (.ref h), some (.int x1), some (.int (nI v2)), some (.int (nI i + (-1))), none] [] := by
    intro i
    induction i with
    | zero =>
      intro s8 x1 v2 σ hi hx hv hM
      rw [show nI 0 + (-1) = (-1 : Int32) from by decide]
      refine g_iload_n rfl ld_3 10 rfl dX1_layCycle_9 ?_
      refine g_if_lt 71 13 rfl (by decide) dX1_layCycle_10 (fun cz => ?_) (fun cz => absurd cz (by decide))
      rcases hs : (lcS (A 0) 0).1 with _ | s
      · rw [hs] at hx
        have hx : x1 = -106 := hx
        subst hx
        refine g_iload_n rfl ld_1 72 rfl dX1_layCycle_71 ?_
        refine g_bipush (v := -106) (by decide) 74 rfl dX1_layCycle_72 ?_
        refine g_icmp_ne 79 77 rfl (by decide) dX1_layCycle_74 (fun cz => absurd cz (by decide)) (fun cz => ?_)
        refine g_iconst (v := 0) (by decide) 78 rfl dX1_layCycle_77 ?_
        have e9 : lcL (A 0) = 0 := by rw [lcL, hs]
        exact g_iret hR rfl (Nat.le_of_ble_eq_true rfl) (Nat.le_of_ble_eq_true rfl) ⟨_, rfl, s8, A 9, by rw [e9]; rfl, by rw [e9]; exact fun k hk => absurd hk (by omega), by rw [show uA (uA A 8 s8) 9 (A 9) = (uA A 8 s8) from uA_self _ 9]; exact hM⟩ dX1_layCycle_78
      · rw [hs] at hx
        have hx : x1 = nI s := hx
        subst hx
        have hs12 := (lcS_le (A 0) 12 0 (by omega)).2 s hs
        obtain ⟨hL1, hL12, hrg⟩ := hRing s hs
        replace hv := hv.symm
        rw [hv] at hL1 hL12 hrg
        refine g_iload_n rfl ld_1 72 rfl dX1_layCycle_71 ?_
        refine g_bipush (v := -106) (by decide) 74 rfl dX1_layCycle_72 ?_
        refine g_icmp_ne 79 77 rfl (by decide) dX1_layCycle_74 (fun c74 => ?_) (fun c74 => ?_)
        · refine g_aload_n rfl ld_0 80 rfl dX1_layCycle_79 ?_
          refine g_iload_n rfl ld_1 81 rfl dX1_layCycle_80 ?_
          refine g_callV (As := [.int (nI s)]) (rest := []) (ci := 1) (v_X1_measure z.l D b hM (w0 := A 0) rfl (w8 := s8) rfl s (by omega)) k_X1_measure q1868 hM.1 rfl rfl rfl rfl (Nat.le_of_ble_eq_true rfl) ⟨Nat.le_of_ble_eq_true rfl, Nat.le_of_ble_eq_true rfl⟩ 0 0 (Nat.le_of_ble_eq_true rfl) (Nat.le_of_ble_eq_true rfl) (Nat.le_of_ble_eq_true rfl) (Nat.le_of_ble_eq_true rfl) 84 rfl dX1_layCycle_81 (fun v σ1 hq => ?_)
          obtain ⟨rfl, hM⟩ := hq
          revert σ1
          intro σ hM
          have hM : MW D h ad σ0 F (uA A 8 (emb 12 (measN (A 0) s) s8)) σ := by
            have e9 : uA A 8 (emb 12 (measN (A 0) s) s8) = uA (uA A 8 s8) 8 (emb 12 (measN (A 0) s) s8) := by funext x9; simp only [uA_ap]; repeat (first | rfl | split)
            rw [e9]; exact hM
          refine g_aload_n rfl ld_0 85 rfl dX1_layCycle_84 ?_
          refine g_getf (kf := 9) (v := .ref (ad 9)) hM.1 rfl rfl in_X1 (by decide) q1670 rfl 88 rfl dX1_layCycle_85 ?_
          refine g_iconst (v := 0) (by decide) 89 rfl dX1_layCycle_88 ?_
          refine g_iload_n rfl ld_1 90 rfl dX1_layCycle_89 ?_
          refine gm_ast (j := 0) 9 (by decide) (by decide) hM (show (0 : Int32) = nI 0 from rfl) (by simp only [msz]; omega) 91 rfl dX1_layCycle_90 (fun σ hM => ?_)
          have e9 : upd (A 9) 0 (nI s) = emb 1 (rg (A 0) s v2) (A 9) := by rw [emb_s, emb_0]; rfl
          have hM : MW D h ad σ0 F (uA (uA A 8 (emb 12 (measN (A 0) s) s8)) 9 (emb 1 (rg (A 0) s v2) (A 9))) σ := by rw [← e9]; exact hM
          refine g_iconst (v := 1) (by decide) 92 rfl dX1_layCycle_91 ?_
          refine g_istore_n rfl sa_3 93 rfl dX1_layCycle_92 ?_
          have lp93 : ∀ (fu k : Nat) (σ : Hp), k ≤ v2 → v2 + 1 ≤ k + fu → (1 ≤ k) → MW D h ad σ0 F (uA (uA A 8 (emb 12 (measN (A 0) s) s8)) 9 (emb k (rg (A 0) s v2) (A 9))) σ → G z cX1_layCycle RX1 5 rX1_layCycle D b σ 0 0 93 [some (.ref h), some (.int (nI s)), some (.int (nI v2)), some (.int (nI k)), none] [] := by
            intro fu
            induction fu with
            | zero => intros; omega
            | succ fu ih93 =>
              intro k σ hk hf hk1 hM
              refine g_iload_n rfl ld_3 94 rfl dX1_layCycle_93 ?_
              refine g_iload_n rfl ld_2 95 rfl dX1_layCycle_94 ?_
              refine g_icmp_geN (a := k) (c := v2) rfl rfl (by omega) (by omega) 160 98 rfl (by decide) dX1_layCycle_95 (fun c95 => ?_) (fun c95 => ?_)
              · refine g_iload_n rfl ld_2 161 rfl dX1_layCycle_160 ?_
                obtain rfl : k = v2 := by omega
                have e9 : lcL (A 0) = k := by rw [lcL, hs]; exact hv
                exact g_iret hR rfl (Nat.le_of_ble_eq_true rfl) (Nat.le_of_ble_eq_true rfl) ⟨_, rfl, _, _, by rw [e9], by rw [e9]; exact fun j hj => by rw [emb_at hj, lcRg, hs, hv], hM⟩ dX1_layCycle_161
              · refine g_iconst (v := 0) (by decide) 99 rfl dX1_layCycle_98 ?_
                refine g_istore sa_4 101 rfl dX1_layCycle_99 ?_
                have hrk : rg (A 0) s v2 k < 12 := hrg k (by omega)
                have hrk1 : rg (A 0) s v2 (k - 1) < 12 := hrg (k - 1) (by omega)
                rw [rg_p hk1] at hrk
                have lp101 : ∀ (fu q : Nat), q ≤ 12 → 12 + 1 ≤ q + fu → (ffN (fun q => isBx (A 0) (nI q) && bbR (A 0) q (rg (A 0) s v2 (k - 1)) && decide (measN (A 0) s q = v2 - k)) 12 0 = ffN (fun q => isBx (A 0) (nI q) && bbR (A 0) q (rg (A 0) s v2 (k - 1)) && decide (measN (A 0) s q = v2 - k)) 12 q) → (q < 12) → G z cX1_layCycle RX1 5 rX1_layCycle D b σ 0 0 101 [some (.ref h), some (.int (nI s)), some (.int (nI v2)), some (.int (nI k)), some (.int (nI q))] [] := by
                  intro fu
                  induction fu with
                  | zero => intros; omega
                  | succ fu ih101 =>
                    intro q  hqq hf hq hq12
                    refine g_aload_n rfl ld_0 102 rfl dX1_layCycle_101 ?_
                    refine g_iload ld_4 104 rfl dX1_layCycle_102 ?_
                    have hmq := measN_le (A 0) s q
                    refine g_callV (As := [.int (nI q)]) (rest := []) (ci := 1) (v_X1_isBox z.l D b hM (w0 := A 0) rfl (nI q)) k_X1_isBox q1759 hM.1 rfl rfl rfl rfl (Nat.le_of_ble_eq_true rfl) ⟨Nat.le_of_ble_eq_true rfl, Nat.le_of_ble_eq_true rfl⟩ 0 0 (Nat.le_of_ble_eq_true rfl) (Nat.le_of_ble_eq_true rfl) (Nat.le_of_ble_eq_true rfl) (Nat.le_of_ble_eq_true rfl) 107 rfl dX1_layCycle_104 (fun v σ1 hq => ?_)
                    obtain ⟨rfl, rfl⟩ := hq
                    refine g_if_eqB 140 110 rfl (by decide) dX1_layCycle_107 (fun c107 => ?_) (fun c107 => ?_)
                    · have hqn : q + 1 < 12 := by
                        have e1 := hq.trans (ffN_miss (p := (fun q => isBx (A 0) (nI q) && bbR (A 0) q (rg (A 0) s v2 (k - 1)) && decide (measN (A 0) s q = v2 - k))) (by omega) (by simp [*]))
                        rw [e1] at hrk
                        by_cases hz1 : q + 1 < 12
                        · exact hz1
                        · rw [ffN_end (by omega)] at hrk; omega
                      refine g_iinc (v := nI (q + 1)) ld_4 (nI_1 _) sa_4 143 rfl dX1_layCycle_140 ?_
                      refine g_goto 101 (by decide) dX1_layCycle_143 ?_
                      exact ih101 (q + 1) (by omega) (by omega) (hq.trans (ffN_miss (by omega) (by simp [*]))) (hqn)
                    · refine g_aload_n rfl ld_0 111 rfl dX1_layCycle_110 ?_
                      refine g_iload ld_4 113 rfl dX1_layCycle_111 ?_
                      refine g_aload_n rfl ld_0 114 rfl dX1_layCycle_113 ?_
                      refine g_getf (kf := 9) (v := .ref (ad 9)) hM.1 rfl rfl in_X1 (by decide) q1670 rfl 117 rfl dX1_layCycle_114 ?_
                      refine g_iload_n rfl ld_3 118 rfl dX1_layCycle_117 ?_
                      refine g_iconst (v := 1) (by decide) 119 rfl dX1_layCycle_118 ?_
                      refine g_isubN (a := k) (c := 1) rfl (show (1 : Int32) = nI 1 from rfl) (by omega) 120 rfl dX1_layCycle_119 ?_
                      refine g_ialdE (j := (k - 1)) (f := emb k (rg (A 0) s v2) (A 9)) (v := nI ((rg (A 0) s v2) ((k - 1)))) hM.a9 rfl (by omega) (by decide) (emb_at (by omega)) 121 rfl dX1_layCycle_120 ?_
                      refine g_callV (As := [.int (nI q), .int (nI ((rg (A 0) s v2) ((k - 1))))]) (rest := []) (ci := 1) (v_X1_isBoxBehind z.l D b hM (w0 := A 0) rfl q ((rg (A 0) s v2) ((k - 1))) (by omega) (by omega)) k_X1_isBoxBehind q1805 hM.1 rfl rfl rfl rfl (Nat.le_of_ble_eq_true rfl) ⟨Nat.le_of_ble_eq_true rfl, Nat.le_of_ble_eq_true rfl⟩ 0 0 (Nat.le_of_ble_eq_true rfl) (Nat.le_of_ble_eq_true rfl) (Nat.le_of_ble_eq_true rfl) (Nat.le_of_ble_eq_true rfl) 124 rfl dX1_layCycle_121 (fun v σ1 hq => ?_)
                      obtain ⟨rfl, rfl⟩ := hq
                      refine g_if_eqB 140 127 rfl (by decide) dX1_layCycle_124 (fun c124 => ?_) (fun c124 => ?_)
                      · have hqn : q + 1 < 12 := by
                          have e1 := hq.trans (ffN_miss (p := (fun q => isBx (A 0) (nI q) && bbR (A 0) q (rg (A 0) s v2 (k - 1)) && decide (measN (A 0) s q = v2 - k))) (by omega) (by simp [*]))
                          rw [e1] at hrk
                          by_cases hz1 : q + 1 < 12
                          · exact hz1
                          · rw [ffN_end (by omega)] at hrk; omega
                        refine g_iinc (v := nI (q + 1)) ld_4 (nI_1 _) sa_4 143 rfl dX1_layCycle_140 ?_
                        refine g_goto 101 (by decide) dX1_layCycle_143 ?_
                        exact ih101 (q + 1) (by omega) (by omega) (hq.trans (ffN_miss (by omega) (by simp [*]))) (hqn)
                      · refine g_aload_n rfl ld_0 128 rfl dX1_layCycle_127 ?_
                        refine g_getf (kf := 8) (v := .ref (ad 8)) hM.1 rfl rfl in_X1 (by decide) q1669 rfl 131 rfl dX1_layCycle_128 ?_
                        refine g_iload ld_4 133 rfl dX1_layCycle_131 ?_
                        refine g_ialdE (j := q) (f := emb 12 (measN (A 0) s) s8) (v := nI ((measN (A 0) s) q)) hM.a8 rfl (by omega) (by decide) (emb_at (by omega)) 134 rfl dX1_layCycle_133 ?_
                        refine g_iload_n rfl ld_2 135 rfl dX1_layCycle_134 ?_
                        refine g_iload_n rfl ld_3 136 rfl dX1_layCycle_135 ?_
                        refine g_isubN (a := v2) (c := k) rfl rfl (by omega) 137 rfl dX1_layCycle_136 ?_
                        refine g_icmp_eqN (a := ((measN (A 0) s) q)) (c := (v2 - k)) rfl rfl (by omega) (by omega) 146 140 rfl (by decide) dX1_layCycle_137 (fun c137 => ?_) (fun c137 => ?_)
                        · have hq : ffN (fun q => isBx (A 0) (nI q) && bbR (A 0) q (rg (A 0) s v2 (k - 1)) && decide (measN (A 0) s q = v2 - k)) 12 0 = q := hq.trans (ffN_hit (by omega) (by simp [*]))
                          refine g_aload_n rfl ld_0 147 rfl dX1_layCycle_146 ?_
                          refine g_getf (kf := 9) (v := .ref (ad 9)) hM.1 rfl rfl in_X1 (by decide) q1670 rfl 150 rfl dX1_layCycle_147 ?_
                          refine g_iload_n rfl ld_3 151 rfl dX1_layCycle_150 ?_
                          refine g_iload ld_4 153 rfl dX1_layCycle_151 ?_
                          refine gm_astU (j := k) 9 (by decide) (by decide) hM rfl (by simp only [msz]; omega) 154 rfl dX1_layCycle_153 (fun σ hM => ?_)
                          refine g_iinc (v := nI (k + 1)) ld_3 (nI_1 _) sa_3 157 rfl dX1_layCycle_154 ?_
                          refine g_goto 93 (by decide) dX1_layCycle_157 ?_
                          refine G_lv dr_4 ?_
                          have hM : MW D h ad σ0 F (uA (uA A 8 (emb 12 (measN (A 0) s) s8)) 9 (emb ((k + 1)) (rg (A 0) s v2) (A 9))) σ := by
                            have e2 : uA (uA A 8 (emb 12 (measN (A 0) s) s8)) 9 (emb ((k + 1)) (rg (A 0) s v2) (A 9)) = uA (uA A 8 (emb 12 (measN (A 0) s) s8)) 9 (upd (emb k (rg (A 0) s v2) (A 9)) k (nI q)) := by rw [emb_s k (rg (A 0) s v2), rg_p hk1, hq]
                            rw [e2]; exact hM
                          exact ih93 (k + 1) σ (by omega) (by omega) (by omega) hM
                        · have hqn : q + 1 < 12 := by
                            have e1 := hq.trans (ffN_miss (p := (fun q => isBx (A 0) (nI q) && bbR (A 0) q (rg (A 0) s v2 (k - 1)) && decide (measN (A 0) s q = v2 - k))) (by omega) (by simp [*]))
                            rw [e1] at hrk
                            by_cases hz1 : q + 1 < 12
                            · exact hz1
                            · rw [ffN_end (by omega)] at hrk; omega
                          refine g_iinc (v := nI (q + 1)) ld_4 (nI_1 _) sa_4 143 rfl dX1_layCycle_140 ?_
                          refine g_goto 101 (by decide) dX1_layCycle_143 ?_
                          exact ih101 (q + 1) (by omega) (by omega) (hq.trans (ffN_miss (by omega) (by simp [*]))) (hqn)
                exact lp101 (12 + 1) 0 (by omega) (by omega) (rfl) (by omega)
          exact lp93 (v2 + 1) 1 σ (by omega) (by omega) (Nat.le_refl 1) hM
        · exact absurd c74 (nI_n106 (by omega))
    | succ i ih9 =>
      intro s8 x1 v2 σ hi hx hv hM
      rw [show nI (i + 1) + (-1) = nI i from pk_m1 i]
      refine g_iload_n rfl ld_3 10 rfl dX1_layCycle_9 ?_
      refine g_if_ltN (a := i) rfl (by omega) 13 rfl 71 (by decide) dX1_layCycle_10 ?_
      have hL := (lcS_le (A 0) 12 (i + 1) (by omega)).1
      have hcl := coN_le (A 0) i
      have hs8 := @lcS_s (A 0) i (by omega)
      refine g_aload_n rfl ld_0 14 rfl dX1_layCycle_13 ?_
      refine g_iload_n rfl ld_3 15 rfl dX1_layCycle_14 ?_
      refine g_callV (As := [.int (nI i)]) (rest := []) (ci := 1) (v_X1_isBox z.l D b hM (w0 := A 0) rfl (nI i)) k_X1_isBox q1759 hM.1 rfl rfl rfl rfl (Nat.le_of_ble_eq_true rfl) ⟨Nat.le_of_ble_eq_true rfl, Nat.le_of_ble_eq_true rfl⟩ 0 0 (Nat.le_of_ble_eq_true rfl) (Nat.le_of_ble_eq_true rfl) (Nat.le_of_ble_eq_true rfl) (Nat.le_of_ble_eq_true rfl) 18 rfl dX1_layCycle_15 (fun v σ1 hq => ?_)
      obtain ⟨rfl, rfl⟩ := hq
      refine g_if_eqB 29 21 rfl (by decide) dX1_layCycle_18 (fun c18 => ?_) (fun c18 => ?_)
      · refine g_bipush (v := 99) (by decide) 31 rfl dX1_layCycle_29 ?_
        refine g_istore sa_4 33 rfl dX1_layCycle_31 ?_
        have j51 : ∀ y : Int32, y = (if 99 ≤ v2 ∧ 99 < 99 then nI i else x1) → G z cX1_layCycle RX1 5 rX1_layCycle D b σ 0 0 51 [some (.ref h), some (.int x1), some (.int (nI v2)), some (.int (nI i)), some (.int ((99 : Int32)))] [.int y] := by
          intro y hy
          refine g_istore_n rfl sa_1 52 rfl dX1_layCycle_51 ?_
          have j64 : ∀ u : Nat, u = (if 99 < v2 then 99 else v2) → G z cX1_layCycle RX1 5 rX1_layCycle D b σ 0 0 64 [some (.ref h), some (.int y), some (.int (nI v2)), some (.int (nI i)), some (.int ((99 : Int32)))] [.int (nI u)] := by
            intro u hu
            refine g_istore_n rfl sa_2 65 rfl dX1_layCycle_64 ?_
            refine g_iinc (v := (nI i) + (-1)) ld_3 (ofm1 _) sa_3 68 rfl dX1_layCycle_65 ?_
            refine g_goto 9 (by decide) dX1_layCycle_68 ?_
            refine G_lv dr_4 ?_
            exact ih9 s8 y u σ (by omega) (by rw [hs8]; dsimp only; rw [hy, hx, ← hv, manyC]; simp only [c18, if_true, Bool.false_eq_true, if_false]; rw [apply_ite oI32]; rfl) (by rw [hs8]; dsimp only; rw [hu, ← hv, manyC]; simp only [*]; try rfl) hM
          refine g_iload ld_4 54 rfl dX1_layCycle_52 ?_
          refine g_iload_n rfl ld_2 55 rfl dX1_layCycle_54 ?_
          refine g_icmp_geN (a := 99) (c := v2) (show (99 : Int32) = nI 99 from rfl) rfl (by omega) (by omega) 63 58 rfl (by decide) dX1_layCycle_55 (fun c55 => ?_) (fun c55 => ?_)
          · refine g_iload_n rfl ld_2 64 rfl dX1_layCycle_63 ?_
            exact j64 v2 (by simp [*]; try omega)
          · refine g_iload ld_4 60 rfl dX1_layCycle_58 ?_
            refine g_goto 64 (by decide) dX1_layCycle_60 ?_
            exact j64 99 (by simp [*]; try omega)
        refine g_iload ld_4 35 rfl dX1_layCycle_33 ?_
        refine g_iload_n rfl ld_2 36 rfl dX1_layCycle_35 ?_
        refine g_icmp_gtN (a := 99) (c := v2) (show (99 : Int32) = nI 99 from rfl) rfl (by omega) (by omega) 50 39 rfl (by decide) dX1_layCycle_36 (fun c36 => ?_) (fun c36 => ?_)
        · refine g_iload_n rfl ld_1 51 rfl dX1_layCycle_50 ?_
          exact j51 x1 (by first | rw [if_pos (by omega)] | rw [if_neg (by omega)])
        · refine g_iload ld_4 41 rfl dX1_layCycle_39 ?_
          refine g_bipush (v := 99) (by decide) 43 rfl dX1_layCycle_41 ?_
          refine g_icmp_ge 50 46 rfl (by decide) dX1_layCycle_43 (fun cz => ?_) (fun cz => absurd cz (by decide))
          refine g_iload_n rfl ld_1 51 rfl dX1_layCycle_50 ?_
          exact j51 x1 (by first | rw [if_pos (by omega)] | rw [if_neg (by omega)])
      · refine g_aload_n rfl ld_0 22 rfl dX1_layCycle_21 ?_
        refine g_iload_n rfl ld_3 23 rfl dX1_layCycle_22 ?_
        refine g_callV (As := [.int (nI i)]) (rest := []) (ci := 1) (v_X1_cycleOf z.l D b hM (w0 := A 0) rfl (w8 := s8) rfl i (by omega)) k_X1_cycleOf q1864 hM.1 rfl rfl rfl rfl (Nat.le_of_ble_eq_true rfl) ⟨Nat.le_of_ble_eq_true rfl, Nat.le_of_ble_eq_true rfl⟩ 0 0 (Nat.le_of_ble_eq_true rfl) (Nat.le_of_ble_eq_true rfl) (Nat.le_of_ble_eq_true rfl) (Nat.le_of_ble_eq_true rfl) 26 rfl dX1_layCycle_23 (fun v σ1 hq => ?_)
        obtain ⟨_, rfl, rfl, hM⟩ := hq
        revert σ1
        intro σ hM
        have hM : MW D h ad σ0 F (uA A 8 (emb 12 (measN (A 0) i) s8)) σ := by
          have e9 : uA A 8 (emb 12 (measN (A 0) i) s8) = uA (uA A 8 s8) 8 (emb 12 (measN (A 0) i) s8) := by funext x9; simp only [uA_ap]; repeat (first | rfl | split)
          rw [e9]; exact hM
        refine g_goto 31 (by decide) dX1_layCycle_26 ?_
        refine g_istore sa_4 33 rfl dX1_layCycle_31 ?_
        have j51 : ∀ y : Int32, y = (if (coN (A 0) i) ≤ v2 ∧ (coN (A 0) i) < 99 then nI i else x1) → G z cX1_layCycle RX1 5 rX1_layCycle D b σ 0 0 51 [some (.ref h), some (.int x1), some (.int (nI v2)), some (.int (nI i)), some (.int (nI (coN (A 0) i)))] [.int y] := by
          intro y hy
          refine g_istore_n rfl sa_1 52 rfl dX1_layCycle_51 ?_
          have j64 : ∀ u : Nat, u = (if (coN (A 0) i) < v2 then (coN (A 0) i) else v2) → G z cX1_layCycle RX1 5 rX1_layCycle D b σ 0 0 64 [some (.ref h), some (.int y), some (.int (nI v2)), some (.int (nI i)), some (.int (nI (coN (A 0) i)))] [.int (nI u)] := by
            intro u hu
            refine g_istore_n rfl sa_2 65 rfl dX1_layCycle_64 ?_
            refine g_iinc (v := (nI i) + (-1)) ld_3 (ofm1 _) sa_3 68 rfl dX1_layCycle_65 ?_
            refine g_goto 9 (by decide) dX1_layCycle_68 ?_
            refine G_lv dr_4 ?_
            have hM : MW D h ad σ0 F (uA A 8 ((emb 12 (measN (A 0) i) s8))) σ := by
              have e2 : uA A 8 ((emb 12 (measN (A 0) i) s8)) = uA A 8 (emb 12 (measN (A 0) i) s8) := by rfl
              rw [e2]; exact hM
            exact ih9 (emb 12 (measN (A 0) i) s8) y u σ (by omega) (by rw [hs8]; dsimp only; rw [hy, hx, ← hv, manyC]; simp only [c18, if_true, Bool.false_eq_true, if_false]; rw [apply_ite oI32]; rfl) (by rw [hs8]; dsimp only; rw [hu, ← hv, manyC]; simp only [*]; try rfl) hM
          refine g_iload ld_4 54 rfl dX1_layCycle_52 ?_
          refine g_iload_n rfl ld_2 55 rfl dX1_layCycle_54 ?_
          refine g_icmp_geN (a := (coN (A 0) i)) (c := v2) rfl rfl (by omega) (by omega) 63 58 rfl (by decide) dX1_layCycle_55 (fun c55 => ?_) (fun c55 => ?_)
          · refine g_iload_n rfl ld_2 64 rfl dX1_layCycle_63 ?_
            exact j64 v2 (by simp [*]; try omega)
          · refine g_iload ld_4 60 rfl dX1_layCycle_58 ?_
            refine g_goto 64 (by decide) dX1_layCycle_60 ?_
            exact j64 (coN (A 0) i) (by simp [*]; try omega)
        refine g_iload ld_4 35 rfl dX1_layCycle_33 ?_
        refine g_iload_n rfl ld_2 36 rfl dX1_layCycle_35 ?_
        refine g_icmp_gtN (a := (coN (A 0) i)) (c := v2) rfl rfl (by omega) (by omega) 50 39 rfl (by decide) dX1_layCycle_36 (fun c36 => ?_) (fun c36 => ?_)
        · refine g_iload_n rfl ld_1 51 rfl dX1_layCycle_50 ?_
          exact j51 x1 (by first | rw [if_pos (by omega)] | rw [if_neg (by omega)])
        · refine g_iload ld_4 41 rfl dX1_layCycle_39 ?_
          refine g_bipush (v := 99) (by decide) 43 rfl dX1_layCycle_41 ?_
          refine g_icmp_geN (a := (coN (A 0) i)) (c := 99) rfl (show (99 : Int32) = nI 99 from rfl) (by omega) (by omega) 50 46 rfl (by decide) dX1_layCycle_43 (fun c43 => ?_) (fun c43 => ?_)
          · refine g_iload_n rfl ld_1 51 rfl dX1_layCycle_50 ?_
            exact j51 x1 (by first | rw [if_pos (by omega)] | rw [if_neg (by omega)])
          · refine g_iload_n rfl ld_3 47 rfl dX1_layCycle_46 ?_
            refine g_goto 51 (by decide) dX1_layCycle_47 ?_
            exact j51 (nI i) (by first | rw [if_pos (by omega)] | rw [if_neg (by omega)])
  have hM : MW D h ad σ0 F (uA A 8 ((A 8))) σ := by
    have e2 : uA A 8 ((A 8)) = A := by rw [uA_self]
    rw [e2]; exact hM
  have h9 : ∀ w9 : Int32, w9 = nI 12 + (-1) → G z cX1_layCycle RX1 5 rX1_layCycle D b σ 0 0 9 [some (.ref h), some (.int ((-106 : Int32))), some (.int ((99 : Int32))), some (.int w9), none] [] := fun w9 hw9 => by
    subst hw9; exact lp9 12 (A 8) ((-106 : Int32)) 99 σ (by omega) (by rw [lcS_e (by omega)]; rfl) (by rw [lcS_e (by omega)]) hM
  exact h9 _ (by decide)
theorem v_X1_layCycle (l : Launch) (D : DD) (b : Nat) {h : Nat} {ad : Nat → Nat} {σ0 : Hp} {F : Nat → Int32} {A : Nat → Nat → Int32} {σ : Hp} (hM : MW D h ad σ0 F A σ) {w0 : Nat → Int32} (hw0 : A 0 = w0) (hRing : ringOk (A 0)) : CM l yX1_layCycle cX1_layCycle 5 (some .int) rX1_layCycle D b [.ref h] σ (PI (fun r σ' => ∃ s8 s9 : Nat → Int32, r = nI (lcL (w0)) ∧ (∀ k, k < lcL (w0) → s9 k = nI (lcRg (w0) k)) ∧ MW D h ad σ0 F (uA (uA A 8 s8) 9 s9) σ')) := by
  subst hw0
  exact c_X1_layCycle l D b hM hRing
theorem lcL_le {w : Nat → Int32} (h : ringOk w) : lcL w ≤ 12 := by
  unfold lcL
  cases hs : (lcS w 0).1 with
  | none => exact Nat.zero_le _
  | some s => exact (h s hs).2.1
def cycR (w : Nat → Int32) (k : Int32) : Int32 := if k < 0 then -102 else if k.toNatClampNeg < lcL w then nI (lcRg w k.toNatClampNeg) else -106
def rX1_cycle : Room := { frames := 8, cells := 0, slots := 0, locals := 179 }
theorem k_X1_cycle : CV yX1_cycle cX1_cycle 2 (some .int) 1 := ⟨q1857, q1858, q81, q1859, by decide +kernel, by decide +kernel, by decide +kernel⟩
set_option maxHeartbeats 400000 in
theorem c_X1_cycle (l : Launch) (D : DD) (b : Nat) {h : Nat} {ad : Nat → Nat} {σ0 : Hp} {F : Nat → Int32} {A : Nat → Nat → Int32} {σ : Hp} (hM : MW D h ad σ0 F A σ) (hRing : ringOk (A 0)) (k : Int32) : CM l yX1_cycle cX1_cycle 2 (some .int) rX1_cycle D b [.ref h, .int k] σ (PI (fun r σ' => r = cycR (A 0) k ∧ ∃ s8 s9 : Nat → Int32, MW D h ad σ0 F (uA (uA A 8 s8) 9 s9) σ')) := by
  refine CM_of [some (.ref h), some (.int k)] RX1 (by decide) rfl (cat_all rfl) (Nat.le_of_ble_eq_true rfl) rfl ?_
  intro z hz hR hnm
  refine g_iload_n rfl ld_1 1 rfl dX1_cycle_0 ?_
  refine g_if_ge 7 4 rfl (by decide) dX1_cycle_1 (fun c1 => ?_) (fun c1 => ?_)
  · obtain ⟨j, hj, rfl⟩ := nI_of c1
    have hclj := nI_clamp hj
    have hL12 := lcL_le hRing
    refine g_iload_n rfl ld_1 8 rfl dX1_cycle_7 ?_
    refine g_aload_n rfl ld_0 9 rfl dX1_cycle_8 ?_
    refine g_callV (As := []) (rest := [.int (nI j)]) (ci := 1) (c_X1_layCycle z.l D b hM hRing) k_X1_layCycle q1860 hM.1 rfl rfl rfl rfl (Nat.le_of_ble_eq_true rfl) ⟨Nat.le_of_ble_eq_true rfl, Nat.le_of_ble_eq_true rfl⟩ 0 0 (Nat.le_of_ble_eq_true rfl) (Nat.le_of_ble_eq_true rfl) (Nat.le_of_ble_eq_true rfl) (Nat.le_of_ble_eq_true rfl) 12 rfl dX1_cycle_9 (fun v σ1 hq => ?_)
    obtain ⟨_, rfl, s8, s9, rfl, hs9, hM⟩ := hq
    revert σ1
    intro σ hM
    refine g_icmp_geN (a := j) (c := (lcL (A 0))) rfl rfl (by omega) (by omega) 24 15 rfl (by decide) dX1_cycle_12 (fun c12 => ?_) (fun c12 => ?_)
    · refine g_bipush (v := -106) (by decide) 26 rfl dX1_cycle_24 ?_
      exact g_iret hR rfl (Nat.le_of_ble_eq_true rfl) (Nat.le_of_ble_eq_true rfl) ⟨_, rfl, (show (-106 : Int32) = cycR (A 0) (nI j) from by simp only [cycR, hclj]; rw [if_neg (nI_pos hj)]; first | rw [if_pos (by omega)] | rw [if_neg (by omega)]), ⟨s8, s9, hM⟩⟩ dX1_cycle_26
    · refine g_aload_n rfl ld_0 16 rfl dX1_cycle_15 ?_
      refine g_getf (kf := 9) (v := .ref (ad 9)) hM.1 rfl rfl in_X1 (by decide) q1670 rfl 19 rfl dX1_cycle_16 ?_
      refine g_iload_n rfl ld_1 20 rfl dX1_cycle_19 ?_
      refine g_ialdE (j := j) (f := s9) (v := nI (lcRg (A 0) j)) hM.a9 rfl (by omega) (by decide) (hs9 _ (by omega)) 21 rfl dX1_cycle_20 ?_
      refine g_goto 26 (by decide) dX1_cycle_21 ?_
      exact g_iret hR rfl (Nat.le_of_ble_eq_true rfl) (Nat.le_of_ble_eq_true rfl) ⟨_, rfl, (show nI (lcRg (A 0) j) = cycR (A 0) (nI j) from by simp only [cycR, hclj]; rw [if_neg (nI_pos hj)]; first | rw [if_pos (by omega)] | rw [if_neg (by omega)]), ⟨s8, s9, hM⟩⟩ dX1_cycle_26
  · refine g_bipush (v := -102) (by decide) 6 rfl dX1_cycle_4 ?_
    exact g_iret hR rfl (Nat.le_of_ble_eq_true rfl) (Nat.le_of_ble_eq_true rfl) ⟨_, rfl, (show (-102 : Int32) = cycR (A 0) k from by simp [cycR, *]), ⟨A 8, A 9, by rw [uA_self]; rw [uA_self]; exact hM⟩⟩ dX1_cycle_6
theorem v_X1_cycle (l : Launch) (D : DD) (b : Nat) {h : Nat} {ad : Nat → Nat} {σ0 : Hp} {F : Nat → Int32} {A : Nat → Nat → Int32} {σ : Hp} (hM : MW D h ad σ0 F A σ) {w0 : Nat → Int32} (hw0 : A 0 = w0) (hRing : ringOk (A 0)) (k : Int32) : CM l yX1_cycle cX1_cycle 2 (some .int) rX1_cycle D b [.ref h, .int k] σ (PI (fun r σ' => r = cycR (w0) k ∧ ∃ s8 s9 : Nat → Int32, MW D h ad σ0 F (uA (uA A 8 s8) 9 s9) σ')) := by
  subst hw0
  exact c_X1_cycle l D b hM hRing k
def lx (e : Nat → Nat → Bool) (m : Nat → Nat) (b k : Nat) : Nat → Nat := if (e k b && decide (m b < m k + 1)) = true then updN m b (m k + 1) else m
def lK (e : Nat → Nat → Bool) (b : Nat) (m : Nat → Nat) : Nat → Nat → Nat
  | 0 => m
  | k + 1 => lx e (lK e b m k) b k
def lB (e : Nat → Nat → Bool) (m : Nat → Nat) : Nat → Nat → Nat
  | 0 => m
  | b + 1 => lK e b (lB e m b) 12
def lR (e : Nat → Nat → Bool) (m : Nat → Nat) : Nat → Nat → Nat
  | 0 => m
  | r + 1 => lB e (lR e m r) 12
def levN (w : Nat → Int32) : Nat → Nat := lR (eR w) (fun _ => 0) 12
theorem updN_self (m : Nat → Nat) (b : Nat) : updN m b (m b) = m := by funext x; simp only [updN]; split <;> simp_all
theorem lx_le {e : Nat → Nat → Bool} {m : Nat → Nat} {b k N : Nat} (h : ∀ x, m x ≤ N) : ∀ x, lx e m b k x ≤ N + 1 := by
  intro x
  have h1 := h x; have h2 := h k
  unfold lx
  split
  · unfold updN; split <;> omega
  · omega
theorem lK_le {e : Nat → Nat → Bool} {m : Nat → Nat} {b N : Nat} (h : ∀ x, m x ≤ N) : ∀ k x, lK e b m k x ≤ N + k
  | 0 => h
  | k + 1 => lx_le (lK_le h k)
theorem lB_le {e : Nat → Nat → Bool} {m : Nat → Nat} {N : Nat} (h : ∀ x, m x ≤ N) : ∀ k x, lB e m k x ≤ N + 12 * k
  | 0 => h
  | k + 1 => fun x => lK_le (lB_le h k) 12 x
theorem lR_le {e : Nat → Nat → Bool} {m : Nat → Nat} {N : Nat} (h : ∀ x, m x ≤ N) : ∀ k x, lR e m k x ≤ N + 144 * k
  | 0 => h
  | k + 1 => fun x => by
    have := lB_le (e := e) (lR_le (e := e) h k) 12 x
    rw [lR]; omega
def levelR (w : Nat → Int32) (v : Int32) : Int32 := if isBx w v = false then -101 else if 0 < lcL w then -105 else nI (levN w v.toNatClampNeg)
def rX1_level : Room := { frames := 8, cells := 0, slots := 0, locals := 179 }
theorem k_X1_level : CV yX1_level cX1_level 7 (some .int) 1 := ⟨q1873, q1874, q81, q1875, by decide +kernel, by decide +kernel, by decide +kernel⟩
set_option maxHeartbeats 2000000 in
theorem c_X1_level (l : Launch) (D : DD) (b : Nat) {h : Nat} {ad : Nat → Nat} {σ0 : Hp} {F : Nat → Int32} {A : Nat → Nat → Int32} {σ : Hp} (hM : MW D h ad σ0 F A σ) (hRing : ringOk (A 0)) (v : Int32) : CM l yX1_level cX1_level 7 (some .int) rX1_level D b [.ref h, .int v] σ (PI (fun r σ' => r = levelR (A 0) v ∧ ∃ s8 s9 : Nat → Int32, MW D h ad σ0 F (uA (uA A 8 s8) 9 s9) σ')) := by
  refine CM_of [some (.ref h), some (.int v), none, none, none, none, none] RX1 (by decide) rfl (cat_all rfl) (Nat.le_of_ble_eq_true rfl) rfl ?_
  intro z hz hR hnm
  refine g_aload_n rfl ld_0 1 rfl dX1_level_0 ?_
  refine g_iload_n rfl ld_1 2 rfl dX1_level_1 ?_
  refine g_callV (As := [.int v]) (rest := []) (ci := 1) (v_X1_isBox z.l D b hM (w0 := A 0) rfl v) k_X1_isBox q1759 hM.1 rfl rfl rfl rfl (Nat.le_of_ble_eq_true rfl) ⟨Nat.le_of_ble_eq_true rfl, Nat.le_of_ble_eq_true rfl⟩ 0 0 (Nat.le_of_ble_eq_true rfl) (Nat.le_of_ble_eq_true rfl) (Nat.le_of_ble_eq_true rfl) (Nat.le_of_ble_eq_true rfl) 5 rfl dX1_level_2 (fun v σ1 hq => ?_)
  obtain ⟨rfl, rfl⟩ := hq
  refine g_if_neB 11 8 rfl (by decide) dX1_level_5 (fun c5 => ?_) (fun c5 => ?_)
  · obtain ⟨j, hj, rfl, hwj⟩ := isBx_in c5
    have hclj := nI_clamp (show j < 2 ^ 31 by omega)
    have hL12 := lcL_le hRing
    refine g_aload_n rfl ld_0 12 rfl dX1_level_11 ?_
    refine g_callV (As := []) (rest := []) (ci := 1) (c_X1_layCycle z.l D b hM hRing) k_X1_layCycle q1860 hM.1 rfl rfl rfl rfl (Nat.le_of_ble_eq_true rfl) ⟨Nat.le_of_ble_eq_true rfl, Nat.le_of_ble_eq_true rfl⟩ 0 0 (Nat.le_of_ble_eq_true rfl) (Nat.le_of_ble_eq_true rfl) (Nat.le_of_ble_eq_true rfl) (Nat.le_of_ble_eq_true rfl) 15 rfl dX1_level_12 (fun v σ1 hq => ?_)
    obtain ⟨_, rfl, s8, s9, rfl, hs9, hM⟩ := hq
    revert σ1
    intro σ hM
    refine g_if_leN (a := (lcL (A 0))) rfl (by omega) 21 18 rfl (by decide) dX1_level_15 (fun c15 => ?_) (fun c15 => ?_)
    · refine g_aload_n rfl ld_0 22 rfl dX1_level_21 ?_
      refine g_getf (kf := 8) (v := .ref (ad 8)) hM.1 rfl rfl in_X1 (by decide) q1669 rfl 25 rfl dX1_level_22 ?_
      refine g_astore_n rfl sa_2 26 rfl dX1_level_25 ?_
      refine g_iconst (v := 0) (by decide) 27 rfl dX1_level_26 ?_
      refine g_istore_n rfl sa_3 28 rfl dX1_level_27 ?_
      have lp28 : ∀ (fu i : Nat) (σ : Hp), i ≤ 12 → 12 + 1 ≤ i + fu → MW D h ad σ0 F (uA (uA A 9 s9) 8 (emb i (fun _ => 0) s8)) σ → G z cX1_level RX1 7 rX1_level D b σ 0 0 28 [some (.ref h), some (.int (nI j)), some (.ref (ad 8)), some (.int (nI i)), none, none, none] [] := by
        intro fu
        induction fu with
        | zero => intros; omega
        | succ fu ih28 =>
          intro i σ hi hf  hM
          refine g_iload_n rfl ld_3 29 rfl dX1_level_28 ?_
          refine g_bipush (v := 12) (by decide) 31 rfl dX1_level_29 ?_
          refine g_icmp_geN (a := i) (c := 12) rfl (show (12 : Int32) = nI 12 from rfl) (by omega) (by omega) 44 34 rfl (by decide) dX1_level_31 (fun c31 => ?_) (fun c31 => ?_)
          · obtain rfl : i = 12 := by omega
            have hle0 : ∀ x : Nat, (fun _ : Nat => 0) x ≤ 0 := fun _ => Nat.le_refl 0
            refine g_iconst (v := 0) (by decide) 45 rfl dX1_level_44 ?_
            refine g_istore_n rfl sa_3 46 rfl dX1_level_45 ?_
            have lp46 : ∀ (fu r : Nat) (σ : Hp), r ≤ 12 → 12 + 1 ≤ r + fu → MW D h ad σ0 F (uA (uA A 9 s9) 8 (emb 12 (lR (eR (A 0)) (fun _ => 0) r) s8)) σ → G z cX1_level RX1 7 rX1_level D b σ 0 0 46 [some (.ref h), some (.int (nI j)), some (.ref (ad 8)), some (.int (nI r)), none, none, none] [] := by
              intro fu
              induction fu with
              | zero => intros; omega
              | succ fu ih46 =>
                intro r σ hr hf  hM
                refine g_iload_n rfl ld_3 47 rfl dX1_level_46 ?_
                refine g_bipush (v := 12) (by decide) 49 rfl dX1_level_47 ?_
                refine g_icmp_geN (a := r) (c := 12) rfl (show (12 : Int32) = nI 12 from rfl) (by omega) (by omega) 161 52 rfl (by decide) dX1_level_49 (fun c49 => ?_) (fun c49 => ?_)
                · obtain rfl : r = 12 := by omega
                  refine g_aload_n rfl ld_2 162 rfl dX1_level_161 ?_
                  refine g_iload_n rfl ld_1 163 rfl dX1_level_162 ?_
                  refine g_ialdE (j := j) (f := emb 12 (lR (eR (A 0)) (fun _ => 0) 12) s8) (v := nI ((lR (eR (A 0)) (fun _ => 0) 12) j)) hM.a8 rfl (by omega) (by decide) (emb_at (by omega)) 164 rfl dX1_level_163 ?_
                  exact g_iret hR rfl (Nat.le_of_ble_eq_true rfl) (Nat.le_of_ble_eq_true rfl) ⟨_, rfl, (show nI ((lR (eR (A 0)) (fun _ => 0) 12) j) = levelR (A 0) (nI j) from by simp [levelR, levN, *]), ⟨emb 12 (lR (eR (A 0)) (fun _ => 0) 12) s8, s9, by rw [uA_c (by decide)]; exact hM⟩⟩ dX1_level_164
                · have hle1 := lR_le (e := eR (A 0)) hle0 r
                  refine g_iconst (v := 0) (by decide) 53 rfl dX1_level_52 ?_
                  refine g_istore sa_4 55 rfl dX1_level_53 ?_
                  have lp55 : ∀ (fu p : Nat) (σ : Hp), p ≤ 12 → 12 + 1 ≤ p + fu → MW D h ad σ0 F (uA (uA A 9 s9) 8 (emb 12 (lB (eR (A 0)) (lR (eR (A 0)) (fun _ => 0) r) p) s8)) σ → G z cX1_level RX1 7 rX1_level D b σ 0 0 55 [some (.ref h), some (.int (nI j)), some (.ref (ad 8)), some (.int (nI r)), some (.int (nI p)), none, none] [] := by
                    intro fu
                    induction fu with
                    | zero => intros; omega
                    | succ fu ih55 =>
                      intro p σ hp hf  hM
                      refine g_iload ld_4 57 rfl dX1_level_55 ?_
                      refine g_bipush (v := 12) (by decide) 59 rfl dX1_level_57 ?_
                      refine g_icmp_geN (a := p) (c := 12) rfl (show (12 : Int32) = nI 12 from rfl) (by omega) (by omega) 155 62 rfl (by decide) dX1_level_59 (fun c59 => ?_) (fun c59 => ?_)
                      · refine g_iinc (v := nI (r + 1)) ld_3 (nI_1 _) sa_3 158 rfl dX1_level_155 ?_
                        refine g_goto 46 (by decide) dX1_level_158 ?_
                        refine G_lv dr_4 ?_
                        have hM : MW D h ad σ0 F (uA (uA A 9 s9) 8 (emb 12 (lR (eR (A 0)) (fun _ => 0) ((r + 1))) s8)) σ := by
                          have e2 : uA (uA A 9 s9) 8 (emb 12 (lR (eR (A 0)) (fun _ => 0) ((r + 1))) s8) = uA (uA A 9 s9) 8 (emb 12 (lB (eR (A 0)) (lR (eR (A 0)) (fun _ => 0) r) p) s8) := by rw [lR]; obtain rfl : p = 12 := (by omega); rfl
                          rw [e2]; exact hM
                        exact ih46 (r + 1) σ (by omega) (by omega)  hM
                      · have hle2 := lB_le (e := eR (A 0)) hle1 p
                        refine g_iconst (v := 0) (by decide) 63 rfl dX1_level_62 ?_
                        refine g_istore sa_5 65 rfl dX1_level_63 ?_
                        have lp65 : ∀ (fu k : Nat) (σ : Hp), k ≤ 12 → 12 + 1 ≤ k + fu → MW D h ad σ0 F (uA (uA A 9 s9) 8 (emb 12 (lK (eR (A 0)) p (lB (eR (A 0)) (lR (eR (A 0)) (fun _ => 0) r) p) k) s8)) σ → G z cX1_level RX1 7 rX1_level D b σ 0 0 65 [some (.ref h), some (.int (nI j)), some (.ref (ad 8)), some (.int (nI r)), some (.int (nI p)), some (.int (nI k)), none] [] := by
                          intro fu
                          induction fu with
                          | zero => intros; omega
                          | succ fu ih65 =>
                            intro k σ hk hf  hM
                            refine g_iload ld_5 67 rfl dX1_level_65 ?_
                            refine g_bipush (v := 12) (by decide) 69 rfl dX1_level_67 ?_
                            refine g_icmp_geN (a := k) (c := 12) rfl (show (12 : Int32) = nI 12 from rfl) (by omega) (by omega) 149 72 rfl (by decide) dX1_level_69 (fun c69 => ?_) (fun c69 => ?_)
                            · refine g_iinc (v := nI (p + 1)) ld_4 (nI_1 _) sa_4 152 rfl dX1_level_149 ?_
                              refine g_goto 55 (by decide) dX1_level_152 ?_
                              refine G_lv dr_5 ?_
                              have hM : MW D h ad σ0 F (uA (uA A 9 s9) 8 (emb 12 (lB (eR (A 0)) (lR (eR (A 0)) (fun _ => 0) r) ((p + 1))) s8)) σ := by
                                have e2 : uA (uA A 9 s9) 8 (emb 12 (lB (eR (A 0)) (lR (eR (A 0)) (fun _ => 0) r) ((p + 1))) s8) = uA (uA A 9 s9) 8 (emb 12 (lK (eR (A 0)) p (lB (eR (A 0)) (lR (eR (A 0)) (fun _ => 0) r) p) k) s8) := by rw [lB]; obtain rfl : k = 12 := (by omega); rfl
                                rw [e2]; exact hM
                              exact ih55 (p + 1) σ (by omega) (by omega)  hM
                            · have hle3 := lK_le (e := eR (A 0)) (b := p) hle2 k
                              have hle4 := hle3 p
                              have hle5 := hle3 k
                              have j106 : ∀ y : Int32, y = bI (eR (A 0) k p) → G z cX1_level RX1 7 rX1_level D b σ 0 0 106 [some (.ref h), some (.int (nI j)), some (.ref (ad 8)), some (.int (nI r)), some (.int (nI p)), some (.int (nI k)), none] [.int y] := by
                                intro y hy
                                subst hy
                                refine g_istore sa_6 108 rfl dX1_level_106 ?_
                                refine g_aload_n rfl ld_2 109 rfl dX1_level_108 ?_
                                refine g_iload ld_4 111 rfl dX1_level_109 ?_
                                refine g_iload ld_6 113 rfl dX1_level_111 ?_
                                refine g_if_eqB 138 116 rfl (by decide) dX1_level_113 (fun c113 => ?_) (fun c113 => ?_)
                                · refine g_aload_n rfl ld_2 139 rfl dX1_level_138 ?_
                                  refine g_iload ld_4 141 rfl dX1_level_139 ?_
                                  refine g_ialdE (j := p) (f := emb 12 (lK (eR (A 0)) p (lB (eR (A 0)) (lR (eR (A 0)) (fun _ => 0) r) p) k) s8) (v := nI ((lK (eR (A 0)) p (lB (eR (A 0)) (lR (eR (A 0)) (fun _ => 0) r) p) k) p)) hM.a8 rfl (by omega) (by decide) (emb_at (by omega)) 142 rfl dX1_level_141 ?_
                                  refine gm_astU (j := p) 8 (by decide) (by decide) hM rfl (by simp only [msz]; omega) 143 rfl dX1_level_142 (fun σ hM => ?_)
                                  refine g_iinc (v := nI (k + 1)) ld_5 (nI_1 _) sa_5 146 rfl dX1_level_143 ?_
                                  refine g_goto 65 (by decide) dX1_level_146 ?_
                                  refine G_lv dr_6 ?_
                                  have hM : MW D h ad σ0 F (uA (uA A 9 s9) 8 (emb 12 (lK (eR (A 0)) p (lB (eR (A 0)) (lR (eR (A 0)) (fun _ => 0) r) p) ((k + 1))) s8)) σ := by
                                    have e2 : uA (uA A 9 s9) 8 (emb 12 (lK (eR (A 0)) p (lB (eR (A 0)) (lR (eR (A 0)) (fun _ => 0) r) p) ((k + 1))) s8) = uA (uA A 9 s9) 8 (upd (emb 12 (lK (eR (A 0)) p (lB (eR (A 0)) (lR (eR (A 0)) (fun _ => 0) r) p) k) s8) p (nI ((lK (eR (A 0)) p (lB (eR (A 0)) (lR (eR (A 0)) (fun _ => 0) r) p) k) p))) := by first | (rw [lK, lx, if_pos (by simp only [c113, Bool.true_and, decide_eq_true_eq]; omega), emb_upd (by omega)]) | (rw [lK, lx, if_neg (by first | (simp only [c113, Bool.false_and]; decide) | (simp only [c113, Bool.true_and, decide_eq_true_eq]; omega)), ← emb_upd (by omega), updN_self])
                                    rw [e2]; exact hM
                                  exact ih65 (k + 1) σ (by omega) (by omega)  hM
                                · refine g_aload_n rfl ld_2 117 rfl dX1_level_116 ?_
                                  refine g_iload ld_5 119 rfl dX1_level_117 ?_
                                  refine g_ialdE (j := k) (f := emb 12 (lK (eR (A 0)) p (lB (eR (A 0)) (lR (eR (A 0)) (fun _ => 0) r) p) k) s8) (v := nI ((lK (eR (A 0)) p (lB (eR (A 0)) (lR (eR (A 0)) (fun _ => 0) r) p) k) k)) hM.a8 rfl (by omega) (by decide) (emb_at (by omega)) 120 rfl dX1_level_119 ?_
                                  refine g_iconst (v := 1) (by decide) 121 rfl dX1_level_120 ?_
                                  refine g_iaddN (a := ((lK (eR (A 0)) p (lB (eR (A 0)) (lR (eR (A 0)) (fun _ => 0) r) p) k) k)) (c := 1) rfl (show (1 : Int32) = nI 1 from rfl) 122 rfl dX1_level_121 ?_
                                  refine g_aload_n rfl ld_2 123 rfl dX1_level_122 ?_
                                  refine g_iload ld_4 125 rfl dX1_level_123 ?_
                                  refine g_ialdE (j := p) (f := emb 12 (lK (eR (A 0)) p (lB (eR (A 0)) (lR (eR (A 0)) (fun _ => 0) r) p) k) s8) (v := nI ((lK (eR (A 0)) p (lB (eR (A 0)) (lR (eR (A 0)) (fun _ => 0) r) p) k) p)) hM.a8 rfl (by omega) (by decide) (emb_at (by omega)) 126 rfl dX1_level_125 ?_
                                  refine g_icmp_leN (a := (((lK (eR (A 0)) p (lB (eR (A 0)) (lR (eR (A 0)) (fun _ => 0) r) p) k) k) + 1)) (c := ((lK (eR (A 0)) p (lB (eR (A 0)) (lR (eR (A 0)) (fun _ => 0) r) p) k) p)) rfl rfl (by omega) (by omega) 138 129 rfl (by decide) dX1_level_126 (fun c126 => ?_) (fun c126 => ?_)
                                  · refine g_aload_n rfl ld_2 139 rfl dX1_level_138 ?_
                                    refine g_iload ld_4 141 rfl dX1_level_139 ?_
                                    refine g_ialdE (j := p) (f := emb 12 (lK (eR (A 0)) p (lB (eR (A 0)) (lR (eR (A 0)) (fun _ => 0) r) p) k) s8) (v := nI ((lK (eR (A 0)) p (lB (eR (A 0)) (lR (eR (A 0)) (fun _ => 0) r) p) k) p)) hM.a8 rfl (by omega) (by decide) (emb_at (by omega)) 142 rfl dX1_level_141 ?_
                                    refine gm_astU (j := p) 8 (by decide) (by decide) hM rfl (by simp only [msz]; omega) 143 rfl dX1_level_142 (fun σ hM => ?_)
                                    refine g_iinc (v := nI (k + 1)) ld_5 (nI_1 _) sa_5 146 rfl dX1_level_143 ?_
                                    refine g_goto 65 (by decide) dX1_level_146 ?_
                                    refine G_lv dr_6 ?_
                                    have hM : MW D h ad σ0 F (uA (uA A 9 s9) 8 (emb 12 (lK (eR (A 0)) p (lB (eR (A 0)) (lR (eR (A 0)) (fun _ => 0) r) p) ((k + 1))) s8)) σ := by
                                      have e2 : uA (uA A 9 s9) 8 (emb 12 (lK (eR (A 0)) p (lB (eR (A 0)) (lR (eR (A 0)) (fun _ => 0) r) p) ((k + 1))) s8) = uA (uA A 9 s9) 8 (upd (emb 12 (lK (eR (A 0)) p (lB (eR (A 0)) (lR (eR (A 0)) (fun _ => 0) r) p) k) s8) p (nI ((lK (eR (A 0)) p (lB (eR (A 0)) (lR (eR (A 0)) (fun _ => 0) r) p) k) p))) := by first | (rw [lK, lx, if_pos (by simp only [c113, Bool.true_and, decide_eq_true_eq]; omega), emb_upd (by omega)]) | (rw [lK, lx, if_neg (by first | (simp only [c113, Bool.false_and]; decide) | (simp only [c113, Bool.true_and, decide_eq_true_eq]; omega)), ← emb_upd (by omega), updN_self])
                                      rw [e2]; exact hM
                                    exact ih65 (k + 1) σ (by omega) (by omega)  hM
                                  · refine g_aload_n rfl ld_2 130 rfl dX1_level_129 ?_
                                    refine g_iload ld_5 132 rfl dX1_level_130 ?_
                                    refine g_ialdE (j := k) (f := emb 12 (lK (eR (A 0)) p (lB (eR (A 0)) (lR (eR (A 0)) (fun _ => 0) r) p) k) s8) (v := nI ((lK (eR (A 0)) p (lB (eR (A 0)) (lR (eR (A 0)) (fun _ => 0) r) p) k) k)) hM.a8 rfl (by omega) (by decide) (emb_at (by omega)) 133 rfl dX1_level_132 ?_
                                    refine g_iconst (v := 1) (by decide) 134 rfl dX1_level_133 ?_
                                    refine g_iaddN (a := ((lK (eR (A 0)) p (lB (eR (A 0)) (lR (eR (A 0)) (fun _ => 0) r) p) k) k)) (c := 1) rfl (show (1 : Int32) = nI 1 from rfl) 135 rfl dX1_level_134 ?_
                                    refine g_goto 142 (by decide) dX1_level_135 ?_
                                    refine gm_astU (j := p) 8 (by decide) (by decide) hM rfl (by simp only [msz]; omega) 143 rfl dX1_level_142 (fun σ hM => ?_)
                                    refine g_iinc (v := nI (k + 1)) ld_5 (nI_1 _) sa_5 146 rfl dX1_level_143 ?_
                                    refine g_goto 65 (by decide) dX1_level_146 ?_
                                    refine G_lv dr_6 ?_
                                    have hM : MW D h ad σ0 F (uA (uA A 9 s9) 8 (emb 12 (lK (eR (A 0)) p (lB (eR (A 0)) (lR (eR (A 0)) (fun _ => 0) r) p) ((k + 1))) s8)) σ := by
                                      have e2 : uA (uA A 9 s9) 8 (emb 12 (lK (eR (A 0)) p (lB (eR (A 0)) (lR (eR (A 0)) (fun _ => 0) r) p) ((k + 1))) s8) = uA (uA A 9 s9) 8 (upd (emb 12 (lK (eR (A 0)) p (lB (eR (A 0)) (lR (eR (A 0)) (fun _ => 0) r) p) k) s8) p (nI (((lK (eR (A 0)) p (lB (eR (A 0)) (lR (eR (A 0)) (fun _ => 0) r) p) k) k) + 1))) := by first | (rw [lK, lx, if_pos (by simp only [c113, Bool.true_and, decide_eq_true_eq]; omega), emb_upd (by omega)]) | (rw [lK, lx, if_neg (by first | (simp only [c113, Bool.false_and]; decide) | (simp only [c113, Bool.true_and, decide_eq_true_eq]; omega)), ← emb_upd (by omega), updN_self])
                                      rw [e2]; exact hM
                                    exact ih65 (k + 1) σ (by omega) (by omega)  hM
                              refine g_aload_n rfl ld_0 73 rfl dX1_level_72 ?_
                              refine g_iload ld_4 75 rfl dX1_level_73 ?_
                              refine g_callV (As := [.int (nI p)]) (rest := []) (ci := 1) (v_X1_isBox z.l D b hM (w0 := A 0) rfl (nI p)) k_X1_isBox q1759 hM.1 rfl rfl rfl rfl (Nat.le_of_ble_eq_true rfl) ⟨Nat.le_of_ble_eq_true rfl, Nat.le_of_ble_eq_true rfl⟩ 0 0 (Nat.le_of_ble_eq_true rfl) (Nat.le_of_ble_eq_true rfl) (Nat.le_of_ble_eq_true rfl) (Nat.le_of_ble_eq_true rfl) 78 rfl dX1_level_75 (fun v σ1 hq => ?_)
                              obtain ⟨rfl, rfl⟩ := hq
                              refine g_if_eqB 105 81 rfl (by decide) dX1_level_78 (fun c78 => ?_) (fun c78 => ?_)
                              · refine g_iconst (v := 0) (by decide) 106 rfl dX1_level_105 ?_
                                exact j106 ((0 : Int32)) (by simp [eR, *]; first | rfl | decide)
                              · refine g_aload_n rfl ld_0 82 rfl dX1_level_81 ?_
                                refine g_iload ld_5 84 rfl dX1_level_82 ?_
                                refine g_callV (As := [.int (nI k)]) (rest := []) (ci := 1) (v_X1_isBox z.l D b hM (w0 := A 0) rfl (nI k)) k_X1_isBox q1759 hM.1 rfl rfl rfl rfl (Nat.le_of_ble_eq_true rfl) ⟨Nat.le_of_ble_eq_true rfl, Nat.le_of_ble_eq_true rfl⟩ 0 0 (Nat.le_of_ble_eq_true rfl) (Nat.le_of_ble_eq_true rfl) (Nat.le_of_ble_eq_true rfl) (Nat.le_of_ble_eq_true rfl) 87 rfl dX1_level_84 (fun v σ1 hq => ?_)
                                obtain ⟨rfl, rfl⟩ := hq
                                refine g_if_eqB 105 90 rfl (by decide) dX1_level_87 (fun c87 => ?_) (fun c87 => ?_)
                                · refine g_iconst (v := 0) (by decide) 106 rfl dX1_level_105 ?_
                                  exact j106 ((0 : Int32)) (by simp [eR, *]; first | rfl | decide)
                                · refine g_aload_n rfl ld_0 91 rfl dX1_level_90 ?_
                                  refine g_iload ld_5 93 rfl dX1_level_91 ?_
                                  refine g_iload ld_4 95 rfl dX1_level_93 ?_
                                  refine g_callV (As := [.int (nI k), .int (nI p)]) (rest := []) (ci := 1) (v_X1_isBoxBehind z.l D b hM (w0 := A 0) rfl k p (by omega) (by omega)) k_X1_isBoxBehind q1805 hM.1 rfl rfl rfl rfl (Nat.le_of_ble_eq_true rfl) ⟨Nat.le_of_ble_eq_true rfl, Nat.le_of_ble_eq_true rfl⟩ 0 0 (Nat.le_of_ble_eq_true rfl) (Nat.le_of_ble_eq_true rfl) (Nat.le_of_ble_eq_true rfl) (Nat.le_of_ble_eq_true rfl) 98 rfl dX1_level_95 (fun v σ1 hq => ?_)
                                  obtain ⟨rfl, rfl⟩ := hq
                                  refine g_if_eqB 105 101 rfl (by decide) dX1_level_98 (fun c98 => ?_) (fun c98 => ?_)
                                  · refine g_iconst (v := 0) (by decide) 106 rfl dX1_level_105 ?_
                                    exact j106 ((0 : Int32)) (by simp [eR, *]; first | rfl | decide)
                                  · refine g_iconst (v := 1) (by decide) 102 rfl dX1_level_101 ?_
                                    refine g_goto 106 (by decide) dX1_level_102 ?_
                                    exact j106 ((1 : Int32)) (by simp [eR, *]; first | rfl | decide)
                        have hM : MW D h ad σ0 F (uA (uA A 9 s9) 8 (emb 12 (lK (eR (A 0)) p (lB (eR (A 0)) (lR (eR (A 0)) (fun _ => 0) r) p) 0) s8)) σ := by
                          have e2 : uA (uA A 9 s9) 8 (emb 12 (lK (eR (A 0)) p (lB (eR (A 0)) (lR (eR (A 0)) (fun _ => 0) r) p) 0) s8) = uA (uA A 9 s9) 8 (emb 12 (lB (eR (A 0)) (lR (eR (A 0)) (fun _ => 0) r) p) s8) := by rw [lK]
                          rw [e2]; exact hM
                        exact lp65 (12 + 1) 0 σ (by omega) (by omega)  hM
                  have hM : MW D h ad σ0 F (uA (uA A 9 s9) 8 (emb 12 (lB (eR (A 0)) (lR (eR (A 0)) (fun _ => 0) r) 0) s8)) σ := by
                    have e2 : uA (uA A 9 s9) 8 (emb 12 (lB (eR (A 0)) (lR (eR (A 0)) (fun _ => 0) r) 0) s8) = uA (uA A 9 s9) 8 (emb 12 (lR (eR (A 0)) (fun _ => 0) r) s8) := by rw [lB]
                    rw [e2]; exact hM
                  exact lp55 (12 + 1) 0 σ (by omega) (by omega)  hM
            have hM : MW D h ad σ0 F (uA (uA A 9 s9) 8 (emb 12 (lR (eR (A 0)) (fun _ => 0) 0) s8)) σ := by
              have e2 : uA (uA A 9 s9) 8 (emb 12 (lR (eR (A 0)) (fun _ => 0) 0) s8) = uA (uA A 9 s9) 8 (emb 12 (fun _ => 0) s8) := by rw [lR]
              rw [e2]; exact hM
            exact lp46 (12 + 1) 0 σ (by omega) (by omega)  hM
          · refine g_aload_n rfl ld_2 35 rfl dX1_level_34 ?_
            refine g_iload_n rfl ld_3 36 rfl dX1_level_35 ?_
            refine g_iconst (v := 0) (by decide) 37 rfl dX1_level_36 ?_
            refine gm_astU (j := i) 8 (by decide) (by decide) hM rfl (by simp only [msz]; omega) 38 rfl dX1_level_37 (fun σ hM => ?_)
            refine g_iinc (v := nI (i + 1)) ld_3 (nI_1 _) sa_3 41 rfl dX1_level_38 ?_
            refine g_goto 28 (by decide) dX1_level_41 ?_
            have hM : MW D h ad σ0 F (uA (uA A 9 s9) 8 (emb ((i + 1)) (fun _ => 0) s8)) σ := by
              have e2 : uA (uA A 9 s9) 8 (emb ((i + 1)) (fun _ => 0) s8) = uA (uA A 9 s9) 8 (upd (emb i (fun _ => 0) s8) i ((0 : Int32))) := by rw [emb_s]; rfl
              rw [e2]; exact hM
            exact ih28 (i + 1) σ (by omega) (by omega)  hM
      have hM : MW D h ad σ0 F (uA (uA A 9 s9) 8 (emb 0 (fun _ => 0) s8)) σ := by
        have e2 : uA (uA A 9 s9) 8 (emb 0 (fun _ => 0) s8) = uA (uA A 8 s8) 9 s9 := by rw [emb_0]; exact uA_c (by decide)
        rw [e2]; exact hM
      exact lp28 (12 + 1) 0 σ (by omega) (by omega)  hM
    · refine g_bipush (v := -105) (by decide) 20 rfl dX1_level_18 ?_
      exact g_iret hR rfl (Nat.le_of_ble_eq_true rfl) (Nat.le_of_ble_eq_true rfl) ⟨_, rfl, (show (-105 : Int32) = levelR (A 0) (nI j) from by simp [levelR, levN, *]), ⟨s8, s9, hM⟩⟩ dX1_level_20
  · refine g_bipush (v := -101) (by decide) 10 rfl dX1_level_8 ?_
    exact g_iret hR rfl (Nat.le_of_ble_eq_true rfl) (Nat.le_of_ble_eq_true rfl) ⟨_, rfl, (show (-101 : Int32) = levelR (A 0) v from by simp [levelR, levN, *]), ⟨A 8, A 9, by rw [uA_self]; rw [uA_self]; exact hM⟩⟩ dX1_level_10
theorem v_X1_level (l : Launch) (D : DD) (b : Nat) {h : Nat} {ad : Nat → Nat} {σ0 : Hp} {F : Nat → Int32} {A : Nat → Nat → Int32} {σ : Hp} (hM : MW D h ad σ0 F A σ) {w0 : Nat → Int32} (hw0 : A 0 = w0) (hRing : ringOk (A 0)) (v : Int32) : CM l yX1_level cX1_level 7 (some .int) rX1_level D b [.ref h, .int v] σ (PI (fun r σ' => r = levelR (w0) v ∧ ∃ s8 s9 : Nat → Int32, MW D h ad σ0 F (uA (uA A 8 s8) 9 s9) σ')) := by
  subst hw0
  exact c_X1_level l D b hM hRing v
