/-! THE REFERENCE, part 5: steps, cycles, levels -/
set_option maxRecDepth 100000
/-- an array of small numbers: its first n places hold m -/
def emb (n : Nat) (m : Nat → Nat) (s : Nat → Int32) : Nat → Int32 := fun x => if x < n then nI (m x) else s x
def updN (m : Nat → Nat) (b v : Nat) : Nat → Nat := fun x => if x = b then v else m x
theorem emb_at {n : Nat} {m : Nat → Nat} {s : Nat → Int32} {x : Nat} (h : x < n) : emb n m s x = nI (m x) := if_pos h
theorem emb_0 (m : Nat → Nat) (s : Nat → Int32) : emb 0 m s = s := by funext x; simp [emb]
theorem emb_s (n : Nat) (m : Nat → Nat) (s : Nat → Int32) : emb (n + 1) m s = upd (emb n m s) n (nI (m n)) := by
  funext x
  simp only [emb, upd]
  by_cases h : x = n
  · subst h; simp
  · by_cases h2 : x < n
    · simp [h, h2, show x < n + 1 by omega]
    · simp [h, h2, show ¬ x < n + 1 by omega]
theorem emb_upd {n : Nat} {m : Nat → Nat} {s : Nat → Int32} {b v : Nat} (h : b < n) : emb n (updN m b v) s = upd (emb n m s) b (nI v) := by
  funext x
  simp only [emb, upd, updN]
  by_cases h1 : x = b
  · subst h1; simp [h]
  · simp [h1]
def eR (w : Nat → Int32) (k b : Nat) : Bool := isBx w (nI b) && isBx w (nI k) && bbR w k b
def rx (e : Nat → Nat → Bool) (m : Nat → Nat) (b k : Nat) : Nat → Nat := if (e k b && decide (m k + 1 < m b)) = true then updN m b (m k + 1) else m
def rK (e : Nat → Nat → Bool) (b : Nat) (m : Nat → Nat) : Nat → Nat → Nat
  | 0 => m
  | k + 1 => rx e (rK e b m k) b k
def rB (e : Nat → Nat → Bool) (m : Nat → Nat) : Nat → Nat → Nat
  | 0 => m
  | b + 1 => rK e b (rB e m b) 12
def rR (e : Nat → Nat → Bool) (m : Nat → Nat) : Nat → Nat → Nat
  | 0 => m
  | r + 1 => rB e (rR e m r) 12
def m0 (g : Nat) : Nat → Nat := fun x => if x = g then 0 else 99
def measN (w : Nat → Int32) (g : Nat) : Nat → Nat := rR (eR w) (m0 g) 12
theorem rx_le {e : Nat → Nat → Bool} {m : Nat → Nat} {b k : Nat} (h : ∀ x, m x ≤ 99) : ∀ x, rx e m b k x ≤ 99 := by
  intro x
  unfold rx
  split
  · rename_i hc
    simp only [Bool.and_eq_true, decide_eq_true_eq] at hc
    unfold updN
    split
    · have := h b; omega
    · exact h x
  · exact h x
theorem rK_le {e : Nat → Nat → Bool} {m : Nat → Nat} {b : Nat} (h : ∀ x, m x ≤ 99) : ∀ k x, rK e b m k x ≤ 99
  | 0 => h
  | k + 1 => rx_le (rK_le h k)
theorem rB_le {e : Nat → Nat → Bool} {m : Nat → Nat} (h : ∀ x, m x ≤ 99) : ∀ k x, rB e m k x ≤ 99
  | 0 => h
  | k + 1 => rK_le (rB_le h k) 12
theorem rR_le {e : Nat → Nat → Bool} {m : Nat → Nat} (h : ∀ x, m x ≤ 99) : ∀ k x, rR e m k x ≤ 99
  | 0 => h
  | k + 1 => rB_le (rR_le h k) 12
theorem m0_le (g : Nat) : ∀ x, m0 g x ≤ 99 := by intro x; unfold m0; split <;> omega
theorem measN_le (w : Nat → Int32) (g x : Nat) : measN w g x ≤ 99 := rR_le (m0_le g) 12 x
def rX1_measure : Room := { frames := 5, cells := 0, slots := 0, locals := 108 }
theorem k_X1_measure : CV yX1_measure cX1_measure 5 none 1 := ⟨q1870, qs57, q81, q1871, by decide +kernel, by decide +kernel, by decide +kernel⟩
set_option maxHeartbeats 2000000 in
theorem c_X1_measure (l : Launch) (D : DD) (b : Nat) {h : Nat} {ad : Nat → Nat} {σ0 : Hp} {F : Nat → Int32} {A : Nat → Nat → Int32} {σ : Hp} (hM : MW D h ad σ0 F A σ) (g : Nat) (hg : g < 12) : CM l yX1_measure cX1_measure 5 none rX1_measure D b [.ref h, .int (nI g)] σ (PV (fun σ' => MW D h ad σ0 F (uA A 8 (emb 12 (measN (A 0) g) (A 8))) σ')) := by
  refine CM_of [some (.ref h), some (.int (nI g)), none, none, none] RX1 (by decide) rfl (cat_all rfl) (Nat.le_of_ble_eq_true rfl) rfl ?_
  intro z hz hR hnm
  refine g_iconst (v := 0) (by decide) 1 rfl dX1_measure_0 ?_
  refine g_istore_n rfl sa_2 2 rfl dX1_measure_1 ?_
  have lp2 : ∀ (fu i : Nat) (σ : Hp), i ≤ 12 → 12 + 1 ≤ i + fu → MW D h ad σ0 F (uA A 8 (emb i (m0 g) (A 8))) σ → G z cX1_measure RX1 5 rX1_measure D b σ 0 0 2 [some (.ref h), some (.int (nI g)), some (.int (nI i)), none, none] [] := by
    intro fu
    induction fu with
    | zero => intros; omega
    | succ fu ih2 =>
      intro i σ hi hf  hM
      refine g_iload_n rfl ld_2 3 rfl dX1_measure_2 ?_
      refine g_bipush (v := 12) (by decide) 5 rfl dX1_measure_3 ?_
      refine g_icmp_geN (a := i) (c := 12) rfl (show (12 : Int32) = nI 12 from rfl) (by omega) (by omega) 31 8 rfl (by decide) dX1_measure_5 (fun c5 => ?_) (fun c5 => ?_)
      · obtain rfl : i = 12 := by omega
        have hle0 := m0_le g
        refine g_iconst (v := 0) (by decide) 32 rfl dX1_measure_31 ?_
        refine g_istore_n rfl sa_2 33 rfl dX1_measure_32 ?_
        have lp33 : ∀ (fu r : Nat) (σ : Hp), r ≤ 12 → 12 + 1 ≤ r + fu → MW D h ad σ0 F (uA A 8 (emb 12 (rR (eR (A 0)) (m0 g) r) (A 8))) σ → G z cX1_measure RX1 5 rX1_measure D b σ 0 0 33 [some (.ref h), some (.int (nI g)), some (.int (nI r)), none, none] [] := by
          intro fu
          induction fu with
          | zero => intros; omega
          | succ fu ih33 =>
            intro r σ hr hf  hM
            refine g_iload_n rfl ld_2 34 rfl dX1_measure_33 ?_
            refine g_bipush (v := 12) (by decide) 36 rfl dX1_measure_34 ?_
            refine g_icmp_geN (a := r) (c := 12) rfl (show (12 : Int32) = nI 12 from rfl) (by omega) (by omega) 135 39 rfl (by decide) dX1_measure_36 (fun c36 => ?_) (fun c36 => ?_)
            · obtain rfl : r = 12 := by omega
              exact g_vret hR (Nat.le_of_ble_eq_true rfl) (Nat.le_of_ble_eq_true rfl) ⟨rfl, hM⟩ dX1_measure_135
            · have hle1 := rR_le (e := eR (A 0)) hle0 r
              refine g_iconst (v := 0) (by decide) 40 rfl dX1_measure_39 ?_
              refine g_istore_n rfl sa_3 41 rfl dX1_measure_40 ?_
              have lp41 : ∀ (fu p : Nat) (σ : Hp), p ≤ 12 → 12 + 1 ≤ p + fu → MW D h ad σ0 F (uA A 8 (emb 12 (rB (eR (A 0)) (rR (eR (A 0)) (m0 g) r) p) (A 8))) σ → G z cX1_measure RX1 5 rX1_measure D b σ 0 0 41 [some (.ref h), some (.int (nI g)), some (.int (nI r)), some (.int (nI p)), none] [] := by
                intro fu
                induction fu with
                | zero => intros; omega
                | succ fu ih41 =>
                  intro p σ hp hf  hM
                  refine g_iload_n rfl ld_3 42 rfl dX1_measure_41 ?_
                  refine g_bipush (v := 12) (by decide) 44 rfl dX1_measure_42 ?_
                  refine g_icmp_geN (a := p) (c := 12) rfl (show (12 : Int32) = nI 12 from rfl) (by omega) (by omega) 129 47 rfl (by decide) dX1_measure_44 (fun c44 => ?_) (fun c44 => ?_)
                  · refine g_iinc (v := nI (r + 1)) ld_2 (nI_1 _) sa_2 132 rfl dX1_measure_129 ?_
                    refine g_goto 33 (by decide) dX1_measure_132 ?_
                    refine G_lv dr_3 ?_
                    have hM : MW D h ad σ0 F (uA A 8 (emb 12 (rR (eR (A 0)) (m0 g) ((r + 1))) (A 8))) σ := by
                      have e2 : uA A 8 (emb 12 (rR (eR (A 0)) (m0 g) ((r + 1))) (A 8)) = uA A 8 (emb 12 (rB (eR (A 0)) (rR (eR (A 0)) (m0 g) r) p) (A 8)) := by rw [rR]; obtain rfl : p = 12 := (by omega); rfl
                      rw [e2]; exact hM
                    exact ih33 (r + 1) σ (by omega) (by omega)  hM
                  · have hle2 := rB_le (e := eR (A 0)) hle1 p
                    refine g_iconst (v := 0) (by decide) 48 rfl dX1_measure_47 ?_
                    refine g_istore sa_4 50 rfl dX1_measure_48 ?_
                    have lp50 : ∀ (fu k : Nat) (σ : Hp), k ≤ 12 → 12 + 1 ≤ k + fu → MW D h ad σ0 F (uA A 8 (emb 12 (rK (eR (A 0)) p (rB (eR (A 0)) (rR (eR (A 0)) (m0 g) r) p) k) (A 8))) σ → G z cX1_measure RX1 5 rX1_measure D b σ 0 0 50 [some (.ref h), some (.int (nI g)), some (.int (nI r)), some (.int (nI p)), some (.int (nI k))] [] := by
                      intro fu
                      induction fu with
                      | zero => intros; omega
                      | succ fu ih50 =>
                        intro k σ hk hf  hM
                        refine g_iload ld_4 52 rfl dX1_measure_50 ?_
                        refine g_bipush (v := 12) (by decide) 54 rfl dX1_measure_52 ?_
                        refine g_icmp_geN (a := k) (c := 12) rfl (show (12 : Int32) = nI 12 from rfl) (by omega) (by omega) 123 57 rfl (by decide) dX1_measure_54 (fun c54 => ?_) (fun c54 => ?_)
                        · refine g_iinc (v := nI (p + 1)) ld_3 (nI_1 _) sa_3 126 rfl dX1_measure_123 ?_
                          refine g_goto 41 (by decide) dX1_measure_126 ?_
                          refine G_lv dr_4 ?_
                          have hM : MW D h ad σ0 F (uA A 8 (emb 12 (rB (eR (A 0)) (rR (eR (A 0)) (m0 g) r) ((p + 1))) (A 8))) σ := by
                            have e2 : uA A 8 (emb 12 (rB (eR (A 0)) (rR (eR (A 0)) (m0 g) r) ((p + 1))) (A 8)) = uA A 8 (emb 12 (rK (eR (A 0)) p (rB (eR (A 0)) (rR (eR (A 0)) (m0 g) r) p) k) (A 8)) := by rw [rB]; obtain rfl : k = 12 := (by omega); rfl
                            rw [e2]; exact hM
                          exact ih41 (p + 1) σ (by omega) (by omega)  hM
                        · have hle3 := rK_le (e := eR (A 0)) (b := p) hle2 k
                          have hle4 := hle3 p
                          have hle5 := hle3 k
                          refine g_aload_n rfl ld_0 58 rfl dX1_measure_57 ?_
                          refine g_iload_n rfl ld_3 59 rfl dX1_measure_58 ?_
                          refine g_callV (As := [.int (nI p)]) (rest := []) (ci := 1) (v_X1_isBox z.l D b hM (w0 := A 0) rfl (nI p)) k_X1_isBox q1759 hM.1 rfl rfl rfl rfl (Nat.le_of_ble_eq_true rfl) ⟨Nat.le_of_ble_eq_true rfl, Nat.le_of_ble_eq_true rfl⟩ 0 0 (Nat.le_of_ble_eq_true rfl) (Nat.le_of_ble_eq_true rfl) (Nat.le_of_ble_eq_true rfl) (Nat.le_of_ble_eq_true rfl) 62 rfl dX1_measure_59 (fun v σ1 hq => ?_)
                          obtain ⟨rfl, rfl⟩ := hq
                          refine g_if_eqB 117 65 rfl (by decide) dX1_measure_62 (fun c62 => ?_) (fun c62 => ?_)
                          · refine g_iinc (v := nI (k + 1)) ld_4 (nI_1 _) sa_4 120 rfl dX1_measure_117 ?_
                            refine g_goto 50 (by decide) dX1_measure_120 ?_
                            have hM : MW D h ad σ0 F (uA A 8 (emb 12 (rK (eR (A 0)) p (rB (eR (A 0)) (rR (eR (A 0)) (m0 g) r) p) ((k + 1))) (A 8))) σ := by
                              have e2 : uA A 8 (emb 12 (rK (eR (A 0)) p (rB (eR (A 0)) (rR (eR (A 0)) (m0 g) r) p) ((k + 1))) (A 8)) = uA A 8 (emb 12 (rK (eR (A 0)) p (rB (eR (A 0)) (rR (eR (A 0)) (m0 g) r) p) k) (A 8)) := by rw [rK, rx, if_neg (by simp [eR, *])]
                              rw [e2]; exact hM
                            exact ih50 (k + 1) σ (by omega) (by omega)  hM
                          · refine g_aload_n rfl ld_0 66 rfl dX1_measure_65 ?_
                            refine g_iload ld_4 68 rfl dX1_measure_66 ?_
                            refine g_callV (As := [.int (nI k)]) (rest := []) (ci := 1) (v_X1_isBox z.l D b hM (w0 := A 0) rfl (nI k)) k_X1_isBox q1759 hM.1 rfl rfl rfl rfl (Nat.le_of_ble_eq_true rfl) ⟨Nat.le_of_ble_eq_true rfl, Nat.le_of_ble_eq_true rfl⟩ 0 0 (Nat.le_of_ble_eq_true rfl) (Nat.le_of_ble_eq_true rfl) (Nat.le_of_ble_eq_true rfl) (Nat.le_of_ble_eq_true rfl) 71 rfl dX1_measure_68 (fun v σ1 hq => ?_)
                            obtain ⟨rfl, rfl⟩ := hq
                            refine g_if_eqB 117 74 rfl (by decide) dX1_measure_71 (fun c71 => ?_) (fun c71 => ?_)
                            · refine g_iinc (v := nI (k + 1)) ld_4 (nI_1 _) sa_4 120 rfl dX1_measure_117 ?_
                              refine g_goto 50 (by decide) dX1_measure_120 ?_
                              have hM : MW D h ad σ0 F (uA A 8 (emb 12 (rK (eR (A 0)) p (rB (eR (A 0)) (rR (eR (A 0)) (m0 g) r) p) ((k + 1))) (A 8))) σ := by
                                have e2 : uA A 8 (emb 12 (rK (eR (A 0)) p (rB (eR (A 0)) (rR (eR (A 0)) (m0 g) r) p) ((k + 1))) (A 8)) = uA A 8 (emb 12 (rK (eR (A 0)) p (rB (eR (A 0)) (rR (eR (A 0)) (m0 g) r) p) k) (A 8)) := by rw [rK, rx, if_neg (by simp [eR, *])]
                                rw [e2]; exact hM
                              exact ih50 (k + 1) σ (by omega) (by omega)  hM
                            · refine g_aload_n rfl ld_0 75 rfl dX1_measure_74 ?_
                              refine g_iload ld_4 77 rfl dX1_measure_75 ?_
                              refine g_iload_n rfl ld_3 78 rfl dX1_measure_77 ?_
                              refine g_callV (As := [.int (nI k), .int (nI p)]) (rest := []) (ci := 1) (v_X1_isBoxBehind z.l D b hM (w0 := A 0) rfl k p (by omega) (by omega)) k_X1_isBoxBehind q1805 hM.1 rfl rfl rfl rfl (Nat.le_of_ble_eq_true rfl) ⟨Nat.le_of_ble_eq_true rfl, Nat.le_of_ble_eq_true rfl⟩ 0 0 (Nat.le_of_ble_eq_true rfl) (Nat.le_of_ble_eq_true rfl) (Nat.le_of_ble_eq_true rfl) (Nat.le_of_ble_eq_true rfl) 81 rfl dX1_measure_78 (fun v σ1 hq => ?_)
                              obtain ⟨rfl, rfl⟩ := hq
                              refine g_if_eqB 117 84 rfl (by decide) dX1_measure_81 (fun c81 => ?_) (fun c81 => ?_)
                              · refine g_iinc (v := nI (k + 1)) ld_4 (nI_1 _) sa_4 120 rfl dX1_measure_117 ?_
                                refine g_goto 50 (by decide) dX1_measure_120 ?_
                                have hM : MW D h ad σ0 F (uA A 8 (emb 12 (rK (eR (A 0)) p (rB (eR (A 0)) (rR (eR (A 0)) (m0 g) r) p) ((k + 1))) (A 8))) σ := by
                                  have e2 : uA A 8 (emb 12 (rK (eR (A 0)) p (rB (eR (A 0)) (rR (eR (A 0)) (m0 g) r) p) ((k + 1))) (A 8)) = uA A 8 (emb 12 (rK (eR (A 0)) p (rB (eR (A 0)) (rR (eR (A 0)) (m0 g) r) p) k) (A 8)) := by rw [rK, rx, if_neg (by simp [eR, *])]
                                  rw [e2]; exact hM
                                exact ih50 (k + 1) σ (by omega) (by omega)  hM
                              · refine g_aload_n rfl ld_0 85 rfl dX1_measure_84 ?_
                                refine g_getf (kf := 8) (v := .ref (ad 8)) hM.1 rfl rfl in_X1 (by decide) q1669 rfl 88 rfl dX1_measure_85 ?_
                                refine g_iload ld_4 90 rfl dX1_measure_88 ?_
                                refine g_ialdE (j := k) (f := emb 12 (rK (eR (A 0)) p (rB (eR (A 0)) (rR (eR (A 0)) (m0 g) r) p) k) (A 8)) (v := nI ((rK (eR (A 0)) p (rB (eR (A 0)) (rR (eR (A 0)) (m0 g) r) p) k) k)) hM.a8 rfl (by omega) (by decide) (emb_at (by omega)) 91 rfl dX1_measure_90 ?_
                                refine g_iconst (v := 1) (by decide) 92 rfl dX1_measure_91 ?_
                                refine g_iaddN (a := ((rK (eR (A 0)) p (rB (eR (A 0)) (rR (eR (A 0)) (m0 g) r) p) k) k)) (c := 1) rfl (show (1 : Int32) = nI 1 from rfl) 93 rfl dX1_measure_92 ?_
                                refine g_aload_n rfl ld_0 94 rfl dX1_measure_93 ?_
                                refine g_getf (kf := 8) (v := .ref (ad 8)) hM.1 rfl rfl in_X1 (by decide) q1669 rfl 97 rfl dX1_measure_94 ?_
                                refine g_iload_n rfl ld_3 98 rfl dX1_measure_97 ?_
                                refine g_ialdE (j := p) (f := emb 12 (rK (eR (A 0)) p (rB (eR (A 0)) (rR (eR (A 0)) (m0 g) r) p) k) (A 8)) (v := nI ((rK (eR (A 0)) p (rB (eR (A 0)) (rR (eR (A 0)) (m0 g) r) p) k) p)) hM.a8 rfl (by omega) (by decide) (emb_at (by omega)) 99 rfl dX1_measure_98 ?_
                                refine g_icmp_geN (a := (((rK (eR (A 0)) p (rB (eR (A 0)) (rR (eR (A 0)) (m0 g) r) p) k) k) + 1)) (c := ((rK (eR (A 0)) p (rB (eR (A 0)) (rR (eR (A 0)) (m0 g) r) p) k) p)) rfl rfl (by omega) (by omega) 117 102 rfl (by decide) dX1_measure_99 (fun c99 => ?_) (fun c99 => ?_)
                                · refine g_iinc (v := nI (k + 1)) ld_4 (nI_1 _) sa_4 120 rfl dX1_measure_117 ?_
                                  refine g_goto 50 (by decide) dX1_measure_120 ?_
                                  have hM : MW D h ad σ0 F (uA A 8 (emb 12 (rK (eR (A 0)) p (rB (eR (A 0)) (rR (eR (A 0)) (m0 g) r) p) ((k + 1))) (A 8))) σ := by
                                    have e2 : uA A 8 (emb 12 (rK (eR (A 0)) p (rB (eR (A 0)) (rR (eR (A 0)) (m0 g) r) p) ((k + 1))) (A 8)) = uA A 8 (emb 12 (rK (eR (A 0)) p (rB (eR (A 0)) (rR (eR (A 0)) (m0 g) r) p) k) (A 8)) := by rw [rK, rx, if_neg (by simp [eR, *])]
                                    rw [e2]; exact hM
                                  exact ih50 (k + 1) σ (by omega) (by omega)  hM
                                · refine g_aload_n rfl ld_0 103 rfl dX1_measure_102 ?_
                                  refine g_getf (kf := 8) (v := .ref (ad 8)) hM.1 rfl rfl in_X1 (by decide) q1669 rfl 106 rfl dX1_measure_103 ?_
                                  refine g_iload_n rfl ld_3 107 rfl dX1_measure_106 ?_
                                  refine g_aload_n rfl ld_0 108 rfl dX1_measure_107 ?_
                                  refine g_getf (kf := 8) (v := .ref (ad 8)) hM.1 rfl rfl in_X1 (by decide) q1669 rfl 111 rfl dX1_measure_108 ?_
                                  refine g_iload ld_4 113 rfl dX1_measure_111 ?_
                                  refine g_ialdE (j := k) (f := emb 12 (rK (eR (A 0)) p (rB (eR (A 0)) (rR (eR (A 0)) (m0 g) r) p) k) (A 8)) (v := nI ((rK (eR (A 0)) p (rB (eR (A 0)) (rR (eR (A 0)) (m0 g) r) p) k) k)) hM.a8 rfl (by omega) (by decide) (emb_at (by omega)) 114 rfl dX1_measure_113 ?_
                                  refine g_iconst (v := 1) (by decide) 115 rfl dX1_measure_114 ?_
                                  refine g_iaddN (a := ((rK (eR (A 0)) p (rB (eR (A 0)) (rR (eR (A 0)) (m0 g) r) p) k) k)) (c := 1) rfl (show (1 : Int32) = nI 1 from rfl) 116 rfl dX1_measure_115 ?_
                                  refine gm_astU (j := p) 8 (by decide) (by decide) hM rfl (by simp only [msz]; omega) 117 rfl dX1_measure_116 (fun σ hM => ?_)
                                  refine g_iinc (v := nI (k + 1)) ld_4 (nI_1 _) sa_4 120 rfl dX1_measure_117 ?_
                                  refine g_goto 50 (by decide) dX1_measure_120 ?_
                                  have hM : MW D h ad σ0 F (uA A 8 (emb 12 (rK (eR (A 0)) p (rB (eR (A 0)) (rR (eR (A 0)) (m0 g) r) p) ((k + 1))) (A 8))) σ := by
                                    have e2 : uA A 8 (emb 12 (rK (eR (A 0)) p (rB (eR (A 0)) (rR (eR (A 0)) (m0 g) r) p) ((k + 1))) (A 8)) = uA A 8 (upd (emb 12 (rK (eR (A 0)) p (rB (eR (A 0)) (rR (eR (A 0)) (m0 g) r) p) k) (A 8)) p (nI (((rK (eR (A 0)) p (rB (eR (A 0)) (rR (eR (A 0)) (m0 g) r) p) k) k) + 1))) := by rw [rK, rx, if_pos (by simp [eR, *]), emb_upd (by omega)]
                                    rw [e2]; exact hM
                                  exact ih50 (k + 1) σ (by omega) (by omega)  hM
                    have hM : MW D h ad σ0 F (uA A 8 (emb 12 (rK (eR (A 0)) p (rB (eR (A 0)) (rR (eR (A 0)) (m0 g) r) p) 0) (A 8))) σ := by
                      have e2 : uA A 8 (emb 12 (rK (eR (A 0)) p (rB (eR (A 0)) (rR (eR (A 0)) (m0 g) r) p) 0) (A 8)) = uA A 8 (emb 12 (rB (eR (A 0)) (rR (eR (A 0)) (m0 g) r) p) (A 8)) := by rw [rK]
                      rw [e2]; exact hM
                    exact lp50 (12 + 1) 0 σ (by omega) (by omega)  hM
              have hM : MW D h ad σ0 F (uA A 8 (emb 12 (rB (eR (A 0)) (rR (eR (A 0)) (m0 g) r) 0) (A 8))) σ := by
                have e2 : uA A 8 (emb 12 (rB (eR (A 0)) (rR (eR (A 0)) (m0 g) r) 0) (A 8)) = uA A 8 (emb 12 (rR (eR (A 0)) (m0 g) r) (A 8)) := by rw [rB]
                rw [e2]; exact hM
              exact lp41 (12 + 1) 0 σ (by omega) (by omega)  hM
        have hM : MW D h ad σ0 F (uA A 8 (emb 12 (rR (eR (A 0)) (m0 g) 0) (A 8))) σ := by
          have e2 : uA A 8 (emb 12 (rR (eR (A 0)) (m0 g) 0) (A 8)) = uA A 8 (emb 12 (m0 g) (A 8)) := by rw [rR]
          rw [e2]; exact hM
        exact lp33 (12 + 1) 0 σ (by omega) (by omega)  hM
      · refine g_aload_n rfl ld_0 9 rfl dX1_measure_8 ?_
        refine g_getf (kf := 8) (v := .ref (ad 8)) hM.1 rfl rfl in_X1 (by decide) q1669 rfl 12 rfl dX1_measure_9 ?_
        refine g_iload_n rfl ld_2 13 rfl dX1_measure_12 ?_
        have j24 : ∀ y : Int32, y = nI (m0 g i) → G z cX1_measure RX1 5 rX1_measure D b σ 0 0 24 [some (.ref h), some (.int (nI g)), some (.int (nI i)), none, none] [.int y, .int (nI i), .ref (ad 8)] := by
          intro y hy
          subst hy
          refine gm_astU (j := i) 8 (by decide) (by decide) hM rfl (by simp only [msz]; omega) 25 rfl dX1_measure_24 (fun σ hM => ?_)
          refine g_iinc (v := nI (i + 1)) ld_2 (nI_1 _) sa_2 28 rfl dX1_measure_25 ?_
          refine g_goto 2 (by decide) dX1_measure_28 ?_
          have hM : MW D h ad σ0 F (uA A 8 (emb ((i + 1)) (m0 g) (A 8))) σ := by
            have e2 : uA A 8 (emb ((i + 1)) (m0 g) (A 8)) = uA A 8 (upd (emb i (m0 g) (A 8)) i (nI (m0 g i))) := by rw [emb_s]
            rw [e2]; exact hM
          exact ih2 (i + 1) σ (by omega) (by omega)  hM
        refine g_iload_n rfl ld_2 14 rfl dX1_measure_13 ?_
        refine g_iload_n rfl ld_1 15 rfl dX1_measure_14 ?_
        refine g_icmp_neN (a := i) (c := g) rfl rfl (by omega) (by omega) 22 18 rfl (by decide) dX1_measure_15 (fun c15 => ?_) (fun c15 => ?_)
        · refine g_bipush (v := 99) (by decide) 24 rfl dX1_measure_22 ?_
          exact j24 ((99 : Int32)) (by simp [m0, *]; try rfl)
        · refine g_iconst (v := 0) (by decide) 19 rfl dX1_measure_18 ?_
          refine g_goto 24 (by decide) dX1_measure_19 ?_
          exact j24 ((0 : Int32)) (by simp [m0, *]; try rfl)
  have hM : MW D h ad σ0 F (uA A 8 (emb 0 (m0 g) (A 8))) σ := by
    have e2 : uA A 8 (emb 0 (m0 g) (A 8)) = A := by rw [emb_0, uA_self]
    rw [e2]; exact hM
  exact lp2 (12 + 1) 0 σ (by omega) (by omega)  hM
theorem v_X1_measure (l : Launch) (D : DD) (b : Nat) {h : Nat} {ad : Nat → Nat} {σ0 : Hp} {F : Nat → Int32} {A : Nat → Nat → Int32} {σ : Hp} (hM : MW D h ad σ0 F A σ) {w0 : Nat → Int32} (hw0 : A 0 = w0) {w8 : Nat → Int32} (hw8 : A 8 = w8) (g : Nat) (hg : g < 12) : CM l yX1_measure cX1_measure 5 none rX1_measure D b [.ref h, .int (nI g)] σ (PV (fun σ' => MW D h ad σ0 F (uA A 8 (emb 12 (measN (w0) g) (w8))) σ')) := by
  subst hw0
  subst hw8
  exact c_X1_measure l D b hM g hg
def coP (m : Nat → Nat) (w : Nat → Int32) (s : Nat) : Nat → Nat
  | 0 => 99
  | n + 1 => if (isBx w (nI n) && bbR w n s && decide (m n + 1 < coP m w s n)) = true then m n + 1 else coP m w s n
theorem coP_le (m : Nat → Nat) (w : Nat → Int32) (s n : Nat) : coP m w s n ≤ 99 := by
  induction n with
  | zero => exact Nat.le_refl _
  | succ n ih =>
    rw [coP]
    split
    · rename_i hc
      simp only [Bool.and_eq_true, decide_eq_true_eq] at hc
      omega
    · exact ih
def coN (w : Nat → Int32) (s : Nat) : Nat := coP (measN w s) w s 12
def rX1_cycleOf : Room := { frames := 6, cells := 0, slots := 0, locals := 132 }
theorem k_X1_cycleOf : CV yX1_cycleOf cX1_cycleOf 4 (some .int) 1 := ⟨q1866, qs56, q81, q1867, by decide +kernel, by decide +kernel, by decide +kernel⟩
set_option maxHeartbeats 2000000 in
theorem c_X1_cycleOf (l : Launch) (D : DD) (b : Nat) {h : Nat} {ad : Nat → Nat} {σ0 : Hp} {F : Nat → Int32} {A : Nat → Nat → Int32} {σ : Hp} (hM : MW D h ad σ0 F A σ) (s : Nat) (hs : s < 12) : CM l yX1_cycleOf cX1_cycleOf 4 (some .int) rX1_cycleOf D b [.ref h, .int (nI s)] σ (PI (fun r σ' => r = nI (coN (A 0) s) ∧ MW D h ad σ0 F (uA A 8 (emb 12 (measN (A 0) s) (A 8))) σ')) := by
  refine CM_of [some (.ref h), some (.int (nI s)), none, none] RX1 (by decide) rfl (cat_all rfl) (Nat.le_of_ble_eq_true rfl) rfl ?_
  intro z hz hR hnm
  refine g_aload_n rfl ld_0 1 rfl dX1_cycleOf_0 ?_
  refine g_iload_n rfl ld_1 2 rfl dX1_cycleOf_1 ?_
  refine g_callV (As := [.int (nI s)]) (rest := []) (ci := 1) (v_X1_measure z.l D b hM (w0 := A 0) rfl (w8 := A 8) rfl s (by omega)) k_X1_measure q1868 hM.1 rfl rfl rfl rfl (Nat.le_of_ble_eq_true rfl) ⟨Nat.le_of_ble_eq_true rfl, Nat.le_of_ble_eq_true rfl⟩ 0 0 (Nat.le_of_ble_eq_true rfl) (Nat.le_of_ble_eq_true rfl) (Nat.le_of_ble_eq_true rfl) (Nat.le_of_ble_eq_true rfl) 5 rfl dX1_cycleOf_2 (fun v σ1 hq => ?_)
  obtain ⟨rfl, hM⟩ := hq
  revert σ1
  intro σ hM
  refine g_bipush (v := 99) (by decide) 7 rfl dX1_cycleOf_5 ?_
  refine g_istore_n rfl sa_2 8 rfl dX1_cycleOf_7 ?_
  refine g_iconst (v := 0) (by decide) 9 rfl dX1_cycleOf_8 ?_
  refine g_istore_n rfl sa_3 10 rfl dX1_cycleOf_9 ?_
  have lp10 : ∀ (fu i : Nat) (v2 : Nat), i ≤ 12 → 12 + 1 ≤ i + fu → (v2 = coP (measN (A 0) s) (A 0) s i) → G z cX1_cycleOf RX1 4 rX1_cycleOf D b σ 0 0 10 [some (.ref h), some (.int (nI s)), some (.int (nI v2)), some (.int (nI i))] [] := by
    intro fu
    induction fu with
    | zero => intros; omega
    | succ fu ih10 =>
      intro i v2 hi hf hx
      refine g_iload_n rfl ld_3 11 rfl dX1_cycleOf_10 ?_
      refine g_bipush (v := 12) (by decide) 13 rfl dX1_cycleOf_11 ?_
      refine g_icmp_geN (a := i) (c := 12) rfl (show (12 : Int32) = nI 12 from rfl) (by omega) (by omega) 64 16 rfl (by decide) dX1_cycleOf_13 (fun c13 => ?_) (fun c13 => ?_)
      · refine g_iload_n rfl ld_2 65 rfl dX1_cycleOf_64 ?_
        obtain rfl : i = 12 := by omega
        subst hx
        exact g_iret hR rfl (Nat.le_of_ble_eq_true rfl) (Nat.le_of_ble_eq_true rfl) ⟨_, rfl, rfl, hM⟩ dX1_cycleOf_65
      · have hm1 := measN_le (A 0) s i
        have hm2 := coP_le (measN (A 0) s) (A 0) s i
        refine g_aload_n rfl ld_0 17 rfl dX1_cycleOf_16 ?_
        refine g_iload_n rfl ld_3 18 rfl dX1_cycleOf_17 ?_
        refine g_callV (As := [.int (nI i)]) (rest := []) (ci := 1) (v_X1_isBox z.l D b hM (w0 := A 0) rfl (nI i)) k_X1_isBox q1759 hM.1 rfl rfl rfl rfl (Nat.le_of_ble_eq_true rfl) ⟨Nat.le_of_ble_eq_true rfl, Nat.le_of_ble_eq_true rfl⟩ 0 0 (Nat.le_of_ble_eq_true rfl) (Nat.le_of_ble_eq_true rfl) (Nat.le_of_ble_eq_true rfl) (Nat.le_of_ble_eq_true rfl) 21 rfl dX1_cycleOf_18 (fun v σ1 hq => ?_)
        obtain ⟨rfl, rfl⟩ := hq
        refine g_if_eqB 56 24 rfl (by decide) dX1_cycleOf_21 (fun c21 => ?_) (fun c21 => ?_)
        · refine g_iload_n rfl ld_2 57 rfl dX1_cycleOf_56 ?_
          refine g_istore_n rfl sa_2 58 rfl dX1_cycleOf_57 ?_
          refine g_iinc (v := nI (i + 1)) ld_3 (nI_1 _) sa_3 61 rfl dX1_cycleOf_58 ?_
          refine g_goto 10 (by decide) dX1_cycleOf_61 ?_
          exact ih10 (i + 1) v2 (by omega) (by omega) (by rw [coP, ← hx, if_neg (by clear hx; simp [*])])
        · refine g_aload_n rfl ld_0 25 rfl dX1_cycleOf_24 ?_
          refine g_iload_n rfl ld_3 26 rfl dX1_cycleOf_25 ?_
          refine g_iload_n rfl ld_1 27 rfl dX1_cycleOf_26 ?_
          refine g_callV (As := [.int (nI i), .int (nI s)]) (rest := []) (ci := 1) (v_X1_isBoxBehind z.l D b hM (w0 := A 0) rfl i s (by omega) (by omega)) k_X1_isBoxBehind q1805 hM.1 rfl rfl rfl rfl (Nat.le_of_ble_eq_true rfl) ⟨Nat.le_of_ble_eq_true rfl, Nat.le_of_ble_eq_true rfl⟩ 0 0 (Nat.le_of_ble_eq_true rfl) (Nat.le_of_ble_eq_true rfl) (Nat.le_of_ble_eq_true rfl) (Nat.le_of_ble_eq_true rfl) 30 rfl dX1_cycleOf_27 (fun v σ1 hq => ?_)
          obtain ⟨rfl, rfl⟩ := hq
          refine g_if_eqB 56 33 rfl (by decide) dX1_cycleOf_30 (fun c30 => ?_) (fun c30 => ?_)
          · refine g_iload_n rfl ld_2 57 rfl dX1_cycleOf_56 ?_
            refine g_istore_n rfl sa_2 58 rfl dX1_cycleOf_57 ?_
            refine g_iinc (v := nI (i + 1)) ld_3 (nI_1 _) sa_3 61 rfl dX1_cycleOf_58 ?_
            refine g_goto 10 (by decide) dX1_cycleOf_61 ?_
            exact ih10 (i + 1) v2 (by omega) (by omega) (by rw [coP, ← hx, if_neg (by clear hx; simp [*])])
          · refine g_aload_n rfl ld_0 34 rfl dX1_cycleOf_33 ?_
            refine g_getf (kf := 8) (v := .ref (ad 8)) hM.1 rfl rfl in_X1 (by decide) q1669 rfl 37 rfl dX1_cycleOf_34 ?_
            refine g_iload_n rfl ld_3 38 rfl dX1_cycleOf_37 ?_
            refine g_ialdE (j := i) (f := emb 12 (measN (A 0) s) (A 8)) (v := nI ((measN (A 0) s) i)) hM.a8 rfl (by omega) (by decide) (emb_at (by omega)) 39 rfl dX1_cycleOf_38 ?_
            refine g_iconst (v := 1) (by decide) 40 rfl dX1_cycleOf_39 ?_
            refine g_iaddN (a := ((measN (A 0) s) i)) (c := 1) rfl (show (1 : Int32) = nI 1 from rfl) 41 rfl dX1_cycleOf_40 ?_
            refine g_iload_n rfl ld_2 42 rfl dX1_cycleOf_41 ?_
            refine g_icmp_geN (a := (((measN (A 0) s) i) + 1)) (c := v2) rfl rfl (by omega) (by omega) 56 45 rfl (by decide) dX1_cycleOf_42 (fun c42 => ?_) (fun c42 => ?_)
            · refine g_iload_n rfl ld_2 57 rfl dX1_cycleOf_56 ?_
              refine g_istore_n rfl sa_2 58 rfl dX1_cycleOf_57 ?_
              refine g_iinc (v := nI (i + 1)) ld_3 (nI_1 _) sa_3 61 rfl dX1_cycleOf_58 ?_
              refine g_goto 10 (by decide) dX1_cycleOf_61 ?_
              exact ih10 (i + 1) v2 (by omega) (by omega) (by rw [coP, ← hx, if_neg (by clear hx; simp [*])])
            · refine g_aload_n rfl ld_0 46 rfl dX1_cycleOf_45 ?_
              refine g_getf (kf := 8) (v := .ref (ad 8)) hM.1 rfl rfl in_X1 (by decide) q1669 rfl 49 rfl dX1_cycleOf_46 ?_
              refine g_iload_n rfl ld_3 50 rfl dX1_cycleOf_49 ?_
              refine g_ialdE (j := i) (f := emb 12 (measN (A 0) s) (A 8)) (v := nI ((measN (A 0) s) i)) hM.a8 rfl (by omega) (by decide) (emb_at (by omega)) 51 rfl dX1_cycleOf_50 ?_
              refine g_iconst (v := 1) (by decide) 52 rfl dX1_cycleOf_51 ?_
              refine g_iaddN (a := ((measN (A 0) s) i)) (c := 1) rfl (show (1 : Int32) = nI 1 from rfl) 53 rfl dX1_cycleOf_52 ?_
              refine g_goto 57 (by decide) dX1_cycleOf_53 ?_
              refine g_istore_n rfl sa_2 58 rfl dX1_cycleOf_57 ?_
              refine g_iinc (v := nI (i + 1)) ld_3 (nI_1 _) sa_3 61 rfl dX1_cycleOf_58 ?_
              refine g_goto 10 (by decide) dX1_cycleOf_61 ?_
              exact ih10 (i + 1) (((measN (A 0) s) i) + 1) (by omega) (by omega) (by rw [coP, ← hx, if_pos (by clear hx; simp [*])])
  exact lp10 (12 + 1) 0 99 (by omega) (by omega) (rfl)
theorem v_X1_cycleOf (l : Launch) (D : DD) (b : Nat) {h : Nat} {ad : Nat → Nat} {σ0 : Hp} {F : Nat → Int32} {A : Nat → Nat → Int32} {σ : Hp} (hM : MW D h ad σ0 F A σ) {w0 : Nat → Int32} (hw0 : A 0 = w0) {w8 : Nat → Int32} (hw8 : A 8 = w8) (s : Nat) (hs : s < 12) : CM l yX1_cycleOf cX1_cycleOf 4 (some .int) rX1_cycleOf D b [.ref h, .int (nI s)] σ (PI (fun r σ' => r = nI (coN (w0) s) ∧ MW D h ad σ0 F (uA A 8 (emb 12 (measN (w0) s) (w8))) σ')) := by
  subst hw0
  subst hw8
  exact c_X1_cycleOf l D b hM s hs
