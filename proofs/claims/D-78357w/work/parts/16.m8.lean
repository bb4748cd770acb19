/-! THE REFERENCE, part 8: the loop of undrawn pieces, cuts -/
set_option maxRecDepth 100000
theorem emb_ge {n : Nat} {m : Nat → Nat} {s : Nat → Int32} {x : Nat} (h : ¬ x < n) : emb n m s x = s x := if_neg h
def rX1_layLoop : Room := { frames := 6, cells := 0, slots := 0, locals := 130 }
theorem k_X1_layLoop : CV yX1_layLoop cX1_layLoop 6 none 0 := ⟨q1902, qs63, q81, q1903, by decide +kernel, by decide +kernel, by decide +kernel⟩
set_option maxHeartbeats 2000000 in
theorem c_X1_layLoop (l : Launch) (D : DD) (b : Nat) {h : Nat} {ad : Nat → Nat} {σ0 : Hp} {F : Nat → Int32} {A : Nat → Nat → Int32} {σ : Hp} (hM : MW D h ad σ0 F A σ) (pm : Nat) (hpm : F 11 = nI pm) (hpm40 : pm ≤ 40) (d : Nat → Bool) (hd : A 14 = fun x => bI (d x)) (h0 : wkN (A 10) d pm 0 < pm) (hB : allB (A 10) d pm) : CM l yX1_layLoop cX1_layLoop 6 none rX1_layLoop D b [.ref h] σ (PV (fun σ' => ∃ s15, MW D h ad σ0 (upd F 16 (nI (lnN (A 10) d pm))) (uA A 15 (emb (lnN (A 10) d pm) (lpN (A 10) d pm) s15)) σ')) := by
  refine CM_of [some (.ref h), none, none, none, none, none] RX1 (by decide) rfl (cat_all rfl) (Nat.le_of_ble_eq_true rfl) rfl ?_
  intro z hz hR hnm
  have hwk := wkN_ok h0 hB
  refine g_iconst (v := 0) (by decide) 1 rfl dX1_layLoop_0 ?_
  refine g_istore_n rfl sa_1 2 rfl dX1_layLoop_1 ?_
  have lp2 : ∀ (fu q : Nat), q ≤ pm → pm + 1 ≤ q + fu → (wkN (A 10) d pm 0 = ffN (fun k => !d k) pm q) → (q < pm) → G z cX1_layLoop RX1 6 rX1_layLoop D b σ 0 0 2 [some (.ref h), some (.int (nI q)), none, none, none, none] [] := by
    intro fu
    induction fu with
    | zero => intros; omega
    | succ fu ih2 =>
      intro q  hqq hf hq hqp
      refine g_aload_n rfl ld_0 3 rfl dX1_layLoop_2 ?_
      refine g_getf (kf := 14) (v := .ref (ad 14)) hM.1 rfl rfl in_X1 (by decide) q1675 rfl 6 rfl dX1_layLoop_3 ?_
      refine g_iload_n rfl ld_1 7 rfl dX1_layLoop_6 ?_
      refine g_zaldE (j := q) (f := A 14) (v := bI (d q)) hM.a14 rfl (by omega) (by decide) (by rw [hd]) 8 rfl dX1_layLoop_7 ?_
      refine g_if_eqB 17 11 rfl (by decide) dX1_layLoop_8 (fun c8 => ?_) (fun c8 => ?_)
      · have hq0 : wkN (A 10) d pm 0 = q := hq.trans (ffN_hit (by omega) (by simp [*]))
        subst hq0
        refine g_aload_n rfl ld_0 18 rfl dX1_layLoop_17 ?_
        refine g_getf (kf := 15) (v := .ref (ad 15)) hM.1 rfl rfl in_X1 (by decide) q1676 rfl 21 rfl dX1_layLoop_18 ?_
        refine g_astore_n rfl sa_2 22 rfl dX1_layLoop_21 ?_
        refine g_iconst (v := 0) (by decide) 23 rfl dX1_layLoop_22 ?_
        refine g_istore_n rfl sa_3 24 rfl dX1_layLoop_23 ?_
        refine g_bipush (v := -106) (by decide) 26 rfl dX1_layLoop_24 ?_
        refine g_istore sa_4 28 rfl dX1_layLoop_26 ?_
        have lp28 : ∀ (fu m : Nat) (σ : Hp), m ≤ pm → pm + 1 ≤ m + fu → (∀ i j, i < j → j < m → wkN (A 10) d pm i ≠ wkN (A 10) d pm j) → MW D h ad σ0 F (uA A 15 (emb m (wkN (A 10) d pm) (A 15))) σ → G z cX1_layLoop RX1 6 rX1_layLoop D b σ 0 0 28 [some (.ref h), some (.int (nI (wkN (A 10) d pm m))), some (.ref (ad 15)), some (.int (nI m)), some (.int ((-106 : Int32))), none] [] := by
          intro fu
          induction fu with
          | zero => intros; omega
          | succ fu ih28 =>
            intro m σ hm hf hdist hM
            refine g_iload ld_4 30 rfl dX1_layLoop_28 ?_
            refine g_bipush (v := -106) (by decide) 32 rfl dX1_layLoop_30 ?_
            refine g_icmp_ne 90 35 rfl (by decide) dX1_layLoop_32 (fun cz => absurd cz (by decide)) (fun cz => ?_)
            refine g_iconst (v := 0) (by decide) 36 rfl dX1_layLoop_35 ?_
            refine g_istore sa_5 38 rfl dX1_layLoop_36 ?_
            have lp38 : ∀ (fu k : Nat) (x4 : Int32), k ≤ m → m + 1 ≤ k + fu → (x4 = la (fun j => decide (wkN (A 10) d pm j = wkN (A 10) d pm m)) (-106) k) → G z cX1_layLoop RX1 6 rX1_layLoop D b σ 0 0 38 [some (.ref h), some (.int (nI (wkN (A 10) d pm m))), some (.ref (ad 15)), some (.int (nI m)), some (.int x4), some (.int (nI k))] [] := by
              intro fu
              induction fu with
              | zero => intros; omega
              | succ fu ih38 =>
                intro k x4 hk hf hx
                refine g_iload ld_5 40 rfl dX1_layLoop_38 ?_
                refine g_iload_n rfl ld_3 41 rfl dX1_layLoop_40 ?_
                refine g_icmp_geN (a := k) (c := m) rfl rfl (by omega) (by omega) 67 44 rfl (by decide) dX1_layLoop_41 (fun c41 => ?_) (fun c41 => ?_)
                · obtain rfl : m = k := by omega
                  rcases la_cases (fun j => decide (wkN (A 10) d pm j = wkN (A 10) d pm m)) (-106) m with ⟨hl, hno⟩ | ⟨f, hf, hpf, hl⟩
                  · rw [hl] at hx
                    subst hx
                    refine g_iload ld_4 69 rfl dX1_layLoop_67 ?_
                    refine g_bipush (v := -106) (by decide) 71 rfl dX1_layLoop_69 ?_
                    refine g_icmp_ne 28 74 rfl (by decide) dX1_layLoop_71 (fun cz => absurd cz (by decide)) (fun cz => ?_)
                    have hno2 : ∀ i j, i < j → j < m + 1 → wkN (A 10) d pm i ≠ wkN (A 10) d pm j := fun i j h1 h2 => by
                      by_cases hj : j = m
                      · subst hj; exact fun e => by simpa [e] using hno i h1
                      · exact hdist i j h1 (by omega)
                    have hm40 : m + 1 ≤ pm := pigeon pm (m + 1) (wkN (A 10) d pm) (fun i _ => (hwk i).1) hno2
                    have hwm := (hwk m).1
                    have hwm1 := (hwk (m + 1)).1
                    refine g_aload_n rfl ld_2 75 rfl dX1_layLoop_74 ?_
                    refine g_iload_n rfl ld_3 76 rfl dX1_layLoop_75 ?_
                    refine g_iload_n rfl ld_1 77 rfl dX1_layLoop_76 ?_
                    refine gm_astU (j := m) 15 (by decide) (by decide) hM rfl (by simp only [msz]; omega) 78 rfl dX1_layLoop_77 (fun σ hM => ?_)
                    refine g_iinc (v := nI (m + 1)) ld_3 (nI_1 _) sa_3 81 rfl dX1_layLoop_78 ?_
                    refine g_aload_n rfl ld_0 82 rfl dX1_layLoop_81 ?_
                    refine g_iload_n rfl ld_1 83 rfl dX1_layLoop_82 ?_
                    refine g_callV (As := [.int (nI (wkN (A 10) d pm m))]) (rest := []) (ci := 1) (v_X1_lowestBehind z.l D b hM (w10 := A 10) rfl pm hpm (by omega) d hd (wkN (A 10) d pm m) (by omega)) k_X1_lowestBehind q1888 hM.1 rfl rfl rfl rfl (Nat.le_of_ble_eq_true rfl) ⟨Nat.le_of_ble_eq_true rfl, Nat.le_of_ble_eq_true rfl⟩ 0 0 (Nat.le_of_ble_eq_true rfl) (Nat.le_of_ble_eq_true rfl) (Nat.le_of_ble_eq_true rfl) (Nat.le_of_ble_eq_true rfl) 86 rfl dX1_layLoop_83 (fun v σ1 hq => ?_)
                    obtain ⟨rfl, rfl⟩ := hq
                    rw [oN_lt (show lbN (A 10) d pm (wkN (A 10) d pm m) < pm from hwm1)]
                    show G z cX1_layLoop RX1 6 rX1_layLoop D b σ 0 0 86 [some (.ref h), some (.int (nI (wkN (A 10) d pm m))), some (.ref (ad 15)), some (.int (nI (m + 1))), some (.int ((-106 : Int32))), some (.int (nI m))] [.int (nI (wkN (A 10) d pm (m + 1)))]
                    refine g_istore_n rfl sa_1 87 rfl dX1_layLoop_86 ?_
                    refine g_goto 28 (by decide) dX1_layLoop_87 ?_
                    refine G_lv dr_5 ?_
                    have hM : MW D h ad σ0 F (uA A 15 (emb ((m + 1)) (wkN (A 10) d pm) (A 15))) σ := by
                      have e2 : uA A 15 (emb ((m + 1)) (wkN (A 10) d pm) (A 15)) = uA A 15 (upd (emb m (wkN (A 10) d pm) (A 15)) m (nI (wkN (A 10) d pm m))) := by rw [emb_s]
                      rw [e2]; exact hM
                    exact ih28 (m + 1) σ (by omega) (by omega) (hno2) hM
                  · rw [hl] at hx
                    subst hx
                    have hpf : wkN (A 10) d pm f = wkN (A 10) d pm m := by simpa using hpf
                    have hmp := pigeon pm m (wkN (A 10) d pm) (fun i _ => (hwk i).1) hdist
                    refine g_iload ld_4 69 rfl dX1_layLoop_67 ?_
                    refine g_bipush (v := -106) (by decide) 71 rfl dX1_layLoop_69 ?_
                    refine g_icmp_ne 28 74 rfl (by decide) dX1_layLoop_71 (fun c71 => ?_) (fun c71 => ?_)
                    · refine g_iload ld_4 30 rfl dX1_layLoop_28 ?_
                      refine g_bipush (v := -106) (by decide) 32 rfl dX1_layLoop_30 ?_
                      refine g_icmp_ne 90 35 rfl (by decide) dX1_layLoop_32 (fun c32 => ?_) (fun c32 => ?_)
                      · obtain ⟨em, ef⟩ := mf_uniq (by omega) hf hpf hdist
                        refine g_iload ld_4 92 rfl dX1_layLoop_90 ?_
                        refine g_istore sa_5 94 rfl dX1_layLoop_92 ?_
                        have lp94 : ∀ (fu q : Nat) (σ : Hp), q ≤ m → m + 1 ≤ q + fu → (f ≤ q) → MW D h ad σ0 F (uA A 15 (emb (q - f) (fun x => wkN (A 10) d pm (f + x)) (emb m (wkN (A 10) d pm) (A 15)))) σ → G z cX1_layLoop RX1 6 rX1_layLoop D b σ 0 0 94 [some (.ref h), some (.int (nI (wkN (A 10) d pm m))), some (.ref (ad 15)), some (.int (nI m)), some (.int (nI f)), some (.int (nI q))] [] := by
                          intro fu
                          induction fu with
                          | zero => intros; omega
                          | succ fu ih94 =>
                            intro q σ hqm hf hfq hM
                            refine g_iload ld_5 96 rfl dX1_layLoop_94 ?_
                            refine g_iload_n rfl ld_3 97 rfl dX1_layLoop_96 ?_
                            refine g_icmp_geN (a := q) (c := m) rfl rfl (by omega) (by omega) 120 100 rfl (by decide) dX1_layLoop_97 (fun c97 => ?_) (fun c97 => ?_)
                            · obtain rfl : m = q := by omega
                              refine g_aload_n rfl ld_0 121 rfl dX1_layLoop_120 ?_
                              refine g_iload_n rfl ld_3 122 rfl dX1_layLoop_121 ?_
                              refine g_iload ld_4 124 rfl dX1_layLoop_122 ?_
                              refine g_isubN (a := m) (c := f) rfl rfl (by omega) 125 rfl dX1_layLoop_124 ?_
                              refine gm_put (v := nI (m - f)) 16 (by decide) hM q1677 128 rfl dX1_layLoop_125 (fun σ hM => ?_)
                              have eln : lnN (A 10) d pm = m - f := by rw [lnN, em, ef]
                              have elp : lpN (A 10) d pm = fun x => wkN (A 10) d pm (f + x) := by funext x; rw [lpN, ef]
                              exact g_vret hR (Nat.le_of_ble_eq_true rfl) (Nat.le_of_ble_eq_true rfl) ⟨rfl, _, by rw [eln, elp]; exact hM⟩ dX1_layLoop_128
                            · have hwq := (hwk q).1
                              refine g_aload_n rfl ld_0 101 rfl dX1_layLoop_100 ?_
                              refine g_getf (kf := 15) (v := .ref (ad 15)) hM.1 rfl rfl in_X1 (by decide) q1676 rfl 104 rfl dX1_layLoop_101 ?_
                              refine g_iload ld_5 106 rfl dX1_layLoop_104 ?_
                              refine g_iload ld_4 108 rfl dX1_layLoop_106 ?_
                              refine g_isubN (a := q) (c := f) rfl rfl (by omega) 109 rfl dX1_layLoop_108 ?_
                              refine g_aload_n rfl ld_2 110 rfl dX1_layLoop_109 ?_
                              refine g_iload ld_5 112 rfl dX1_layLoop_110 ?_
                              refine g_ialdE (j := q) (f := emb (q - f) (fun x => wkN (A 10) d pm (f + x)) (emb m (wkN (A 10) d pm) (A 15))) (v := nI (wkN (A 10) d pm q)) hM.a15 rfl (by omega) (by decide) (by rw [emb_ge (by omega), emb_at (by omega)]) 113 rfl dX1_layLoop_112 ?_
                              refine gm_astU (j := (q - f)) 15 (by decide) (by decide) hM rfl (by simp only [msz]; omega) 114 rfl dX1_layLoop_113 (fun σ hM => ?_)
                              refine g_iinc (v := nI (q + 1)) ld_5 (nI_1 _) sa_5 117 rfl dX1_layLoop_114 ?_
                              refine g_goto 94 (by decide) dX1_layLoop_117 ?_
                              have hM : MW D h ad σ0 F (uA A 15 (emb (((q + 1)) - f) (fun x => wkN (A 10) d pm (f + x)) (emb m (wkN (A 10) d pm) (A 15)))) σ := by
                                have e2 : uA A 15 (emb (((q + 1)) - f) (fun x => wkN (A 10) d pm (f + x)) (emb m (wkN (A 10) d pm) (A 15))) = uA A 15 (upd (emb (q - f) (fun x => wkN (A 10) d pm (f + x)) (emb m (wkN (A 10) d pm) (A 15))) ((q - f)) (nI (wkN (A 10) d pm q))) := by rw [show q + 1 - f = (q - f) + 1 by omega, emb_s (q - f), show f + (q - f) = q by omega]
                                rw [e2]; exact hM
                              exact ih94 (q + 1) σ (by omega) (by omega) (by omega) hM
                        have hM : MW D h ad σ0 F (uA A 15 (emb (f - f) (fun x => wkN (A 10) d pm (f + x)) (emb m (wkN (A 10) d pm) (A 15)))) σ := by
                          have e2 : uA A 15 (emb (f - f) (fun x => wkN (A 10) d pm (f + x)) (emb m (wkN (A 10) d pm) (A 15))) = uA A 15 (emb m (wkN (A 10) d pm) (A 15)) := by rw [Nat.sub_self, emb_0]
                          rw [e2]; exact hM
                        exact lp94 (m + 1) f σ (by omega) (by omega) (Nat.le_refl f) hM
                      · exact absurd c32 (nI_n106 (by omega))
                    · exact absurd c71 (nI_n106 (by omega))
                · have hwk1 := (hwk k).1
                  have hwk2 := (hwk m).1
                  refine g_aload_n rfl ld_2 45 rfl dX1_layLoop_44 ?_
                  refine g_iload ld_5 47 rfl dX1_layLoop_45 ?_
                  refine g_ialdE (j := k) (f := emb m (wkN (A 10) d pm) (A 15)) (v := nI ((wkN (A 10) d pm) k)) hM.a15 rfl (by omega) (by decide) (emb_at (by omega)) 48 rfl dX1_layLoop_47 ?_
                  refine g_iload_n rfl ld_1 49 rfl dX1_layLoop_48 ?_
                  refine g_icmp_neN (a := ((wkN (A 10) d pm) k)) (c := (wkN (A 10) d pm m)) rfl rfl (by omega) (by omega) 57 52 rfl (by decide) dX1_layLoop_49 (fun c49 => ?_) (fun c49 => ?_)
                  · refine g_iload ld_4 59 rfl dX1_layLoop_57 ?_
                    refine g_istore sa_4 61 rfl dX1_layLoop_59 ?_
                    refine g_iinc (v := nI (k + 1)) ld_5 (nI_1 _) sa_5 64 rfl dX1_layLoop_61 ?_
                    refine g_goto 38 (by decide) dX1_layLoop_64 ?_
                    exact ih38 (k + 1) x4 (by omega) (by omega) (by rw [la, ← hx]; simp [c49])
                  · refine g_iload ld_5 54 rfl dX1_layLoop_52 ?_
                    refine g_goto 59 (by decide) dX1_layLoop_54 ?_
                    refine g_istore sa_4 61 rfl dX1_layLoop_59 ?_
                    refine g_iinc (v := nI (k + 1)) ld_5 (nI_1 _) sa_5 64 rfl dX1_layLoop_61 ?_
                    refine g_goto 38 (by decide) dX1_layLoop_64 ?_
                    exact ih38 (k + 1) (nI k) (by omega) (by omega) (by rw [la, ← hx]; simp [c49])
            exact lp38 (m + 1) 0 ((-106 : Int32)) (by omega) (by omega) (rfl)
        have hM : MW D h ad σ0 F (uA A 15 (emb 0 (wkN (A 10) d pm) (A 15))) σ := by
          have e2 : uA A 15 (emb 0 (wkN (A 10) d pm) (A 15)) = A := by rw [emb_0, uA_self]
          rw [e2]; exact hM
        exact lp28 (pm + 1) 0 σ (by omega) (by omega) (fun i j h1 h2 => absurd h2 (by omega)) hM
      · refine g_iinc (v := nI (q + 1)) ld_1 (nI_1 _) sa_1 14 rfl dX1_layLoop_11 ?_
        refine g_goto 2 (by decide) dX1_layLoop_14 ?_
        exact ih2 (q + 1) (by omega) (by omega) (hq.trans (ffN_miss (by omega) (by simp [*]))) (by
          have e1 := hq.trans (ffN_miss (by omega) (by simp [*]))
          by_cases hz1 : q + 1 < pm
          · exact hz1
          · rw [ffN_end (by omega)] at e1; omega)
  exact lp2 (pm + 1) 0 (by omega) (by omega) (rfl) (by
    have e1 : ffN (fun k => !d k) pm 0 < pm := h0
    omega)
theorem v_X1_layLoop (l : Launch) (D : DD) (b : Nat) {h : Nat} {ad : Nat → Nat} {σ0 : Hp} {F : Nat → Int32} {A : Nat → Nat → Int32} {σ : Hp} (hM : MW D h ad σ0 F A σ) {w10 : Nat → Int32} (hw10 : A 10 = w10) (pm : Nat) (hpm : F 11 = nI pm) (hpm40 : pm ≤ 40) (d : Nat → Bool) (hd : A 14 = fun x => bI (d x)) (h0 : wkN (A 10) d pm 0 < pm) (hB : allB (A 10) d pm) : CM l yX1_layLoop cX1_layLoop 6 none rX1_layLoop D b [.ref h] σ (PV (fun σ' => ∃ s15, MW D h ad σ0 (upd F 16 (nI (lnN (w10) d pm))) (uA A 15 (emb (lnN (w10) d pm) (lpN (w10) d pm) s15)) σ')) := by
  subst hw10
  exact c_X1_layLoop l D b hM pm hpm hpm40 d hd h0 hB
def fcR (P : Nat → Int32) (ax : Nat) (at0 : Int32) (but : Nat) (lp : Nat → Nat) (k : Nat) : Bool := !decide (lp k = but) && (decide (P (7 * lp k + ax) = at0) || decide (P (7 * lp k + 3 + ax) = at0))
def ilR (lp : Nat → Nat) (q k : Nat) : Bool := decide (lp k = q)
def rX1_isFace : Room := { frames := 1, cells := 0, slots := 0, locals := 12 }
theorem k_X1_isFace : CV yX1_isFace cX1_isFace 7 (some .boolean) 3 := ⟨q1914, qs66, q81, q1915, by decide +kernel, by decide +kernel, by decide +kernel⟩
set_option maxHeartbeats 1000000 in
theorem c_X1_isFace (l : Launch) (D : DD) (b : Nat) {h : Nat} {ad : Nat → Nat} {σ0 : Hp} {F : Nat → Int32} {A : Nat → Nat → Int32} {σ : Hp} (hM : MW D h ad σ0 F A σ) (ln : Nat) (hln : F 16 = nI ln) (hln40 : ln ≤ 40) (lp : Nat → Nat) (hlp : ∀ k, k < ln → A 15 k = nI (lp k)) (hlp40 : ∀ k, k < ln → lp k < 40) (ax : Nat) (hax : ax < 3) (at0 : Int32) (but : Nat) (hbut : but < 40) : CM l yX1_isFace cX1_isFace 7 (some .boolean) rX1_isFace D b [.ref h, .int (nI ax), .int at0, .int (nI but)] σ (PIx (bI (an (fcR (A 10) ax at0 but lp) ln)) σ) := by
  refine CM_of [some (.ref h), some (.int (nI ax)), some (.int at0), some (.int (nI but)), none, none, none] RX1 (by decide) rfl (cat_all rfl) (Nat.le_of_ble_eq_true rfl) rfl ?_
  intro z hz hR hnm
  refine g_iconst (v := 0) (by decide) 1 rfl dX1_isFace_0 ?_
  refine g_istore sa_4 3 rfl dX1_isFace_1 ?_
  refine g_iconst (v := 0) (by decide) 4 rfl dX1_isFace_3 ?_
  refine g_istore sa_5 6 rfl dX1_isFace_4 ?_
  have lp6 : ∀ (fu i : Nat) (x4 : Int32), i ≤ ln → ln + 1 ≤ i + fu → (x4 = bI (an (fcR (A 10) ax at0 but lp) i)) → G z cX1_isFace RX1 7 rX1_isFace D b σ 0 0 6 [some (.ref h), some (.int (nI ax)), some (.int at0), some (.int (nI but)), some (.int x4), some (.int (nI i)), none] [] := by
    intro fu
    induction fu with
    | zero => intros; omega
    | succ fu ih6 =>
      intro i x4 hi hf hx
      refine g_iload ld_5 8 rfl dX1_isFace_6 ?_
      refine g_aload_n rfl ld_0 9 rfl dX1_isFace_8 ?_
      refine g_getf (kf := 16) (v := .int (nI ln)) hM.1 (by rw [← hln]; rfl) rfl in_X1 (by decide) q1677 rfl 12 rfl dX1_isFace_9 ?_
      refine g_icmp_geN (a := i) (c := ln) rfl rfl (by omega) (by omega) 82 15 rfl (by decide) dX1_isFace_12 (fun c12 => ?_) (fun c12 => ?_)
      · refine g_iload ld_4 84 rfl dX1_isFace_82 ?_
        obtain rfl : ln = i := by omega
        subst hx
        exact g_iret hR (nz_b _) (Nat.le_of_ble_eq_true rfl) (Nat.le_of_ble_eq_true rfl) ⟨rfl, rfl⟩ dX1_isFace_84
      · refine g_bipush (v := 7) (by decide) 17 rfl dX1_isFace_15 ?_
        have hl4 := hlp40 i (by omega)
        refine g_aload_n rfl ld_0 18 rfl dX1_isFace_17 ?_
        refine g_getf (kf := 15) (v := .ref (ad 15)) hM.1 rfl rfl in_X1 (by decide) q1676 rfl 21 rfl dX1_isFace_18 ?_
        refine g_iload ld_5 23 rfl dX1_isFace_21 ?_
        refine g_ialdE (j := i) (f := A 15) (v := nI (lp i)) hM.a15 rfl (by omega) (by decide) (hlp _ (by omega)) 24 rfl dX1_isFace_23 ?_
        refine g_imulN (a := 7) (c := (lp i)) (show (7 : Int32) = nI 7 from rfl) rfl 25 rfl dX1_isFace_24 ?_
        refine g_istore sa_6 27 rfl dX1_isFace_25 ?_
        refine g_iload ld_4 29 rfl dX1_isFace_27 ?_
        have j73 : ∀ y : Int32, y = bI (fcR (A 10) ax at0 but lp i) → G z cX1_isFace RX1 7 rX1_isFace D b σ 0 0 73 [some (.ref h), some (.int (nI ax)), some (.int at0), some (.int (nI but)), some (.int x4), some (.int (nI i)), some (.int (nI (7 * (lp i))))] [.int y, .int x4] := by
          intro y hy
          refine g_ior 74 rfl dX1_isFace_73 ?_
          refine g_istore sa_4 76 rfl dX1_isFace_74 ?_
          refine g_iinc (v := nI (i + 1)) ld_5 (nI_1 _) sa_5 79 rfl dX1_isFace_76 ?_
          refine g_goto 6 (by decide) dX1_isFace_79 ?_
          refine G_lv dr_6 ?_
          exact ih6 (i + 1) (x4 ||| y) (by omega) (by omega) (by rw [hx, hy, bI_or, an])
        refine g_aload_n rfl ld_0 30 rfl dX1_isFace_29 ?_
        refine g_getf (kf := 15) (v := .ref (ad 15)) hM.1 rfl rfl in_X1 (by decide) q1676 rfl 33 rfl dX1_isFace_30 ?_
        refine g_iload ld_5 35 rfl dX1_isFace_33 ?_
        refine g_ialdE (j := i) (f := A 15) (v := nI (lp i)) hM.a15 rfl (by omega) (by decide) (hlp _ (by omega)) 36 rfl dX1_isFace_35 ?_
        refine g_iload_n rfl ld_3 37 rfl dX1_isFace_36 ?_
        refine g_icmp_eqN (a := (lp i)) (c := but) rfl rfl (by omega) (by omega) 72 40 rfl (by decide) dX1_isFace_37 (fun c37 => ?_) (fun c37 => ?_)
        · refine g_iconst (v := 0) (by decide) 73 rfl dX1_isFace_72 ?_
          exact j73 ((0 : Int32)) (by simp [fcR, *]; try (first | rfl | decide))
        · refine g_aload_n rfl ld_0 41 rfl dX1_isFace_40 ?_
          refine g_getf (kf := 10) (v := .ref (ad 10)) hM.1 rfl rfl in_X1 (by decide) q1671 rfl 44 rfl dX1_isFace_41 ?_
          refine g_iload ld_6 46 rfl dX1_isFace_44 ?_
          refine g_iload_n rfl ld_1 47 rfl dX1_isFace_46 ?_
          refine g_iaddN (a := (7 * (lp i))) (c := ax) rfl rfl 48 rfl dX1_isFace_47 ?_
          refine g_iald (j := ((7 * (lp i)) + ax)) (f := A 10) hM.a10 rfl (by omega) (by decide) 49 rfl dX1_isFace_48 ?_
          refine g_iload_n rfl ld_2 50 rfl dX1_isFace_49 ?_
          refine g_icmp_eq 68 53 rfl (by decide) dX1_isFace_50 (fun c50 => ?_) (fun c50 => ?_)
          · refine g_iconst (v := 1) (by decide) 69 rfl dX1_isFace_68 ?_
            refine g_goto 73 (by decide) dX1_isFace_69 ?_
            exact j73 ((1 : Int32)) (by simp [fcR, *]; try (first | rfl | decide))
          · refine g_aload_n rfl ld_0 54 rfl dX1_isFace_53 ?_
            refine g_getf (kf := 10) (v := .ref (ad 10)) hM.1 rfl rfl in_X1 (by decide) q1671 rfl 57 rfl dX1_isFace_54 ?_
            refine g_iload ld_6 59 rfl dX1_isFace_57 ?_
            refine g_iconst (v := 3) (by decide) 60 rfl dX1_isFace_59 ?_
            refine g_iaddN (a := (7 * (lp i))) (c := 3) rfl (show (3 : Int32) = nI 3 from rfl) 61 rfl dX1_isFace_60 ?_
            refine g_iload_n rfl ld_1 62 rfl dX1_isFace_61 ?_
            refine g_iaddN (a := ((7 * (lp i)) + 3)) (c := ax) rfl rfl 63 rfl dX1_isFace_62 ?_
            refine g_iald (j := (((7 * (lp i)) + 3) + ax)) (f := A 10) hM.a10 rfl (by omega) (by decide) 64 rfl dX1_isFace_63 ?_
            refine g_iload_n rfl ld_2 65 rfl dX1_isFace_64 ?_
            refine g_icmp_ne 72 68 rfl (by decide) dX1_isFace_65 (fun c65 => ?_) (fun c65 => ?_)
            · refine g_iconst (v := 0) (by decide) 73 rfl dX1_isFace_72 ?_
              exact j73 ((0 : Int32)) (by simp [fcR, *]; try (first | rfl | decide))
            · refine g_iconst (v := 1) (by decide) 69 rfl dX1_isFace_68 ?_
              refine g_goto 73 (by decide) dX1_isFace_69 ?_
              exact j73 ((1 : Int32)) (by simp [fcR, *]; try (first | rfl | decide))
  exact lp6 (ln + 1) 0 ((0 : Int32)) (by omega) (by omega) (rfl)
theorem v_X1_isFace (l : Launch) (D : DD) (b : Nat) {h : Nat} {ad : Nat → Nat} {σ0 : Hp} {F : Nat → Int32} {A : Nat → Nat → Int32} {σ : Hp} (hM : MW D h ad σ0 F A σ) {w10 : Nat → Int32} (hw10 : A 10 = w10) (ln : Nat) (hln : F 16 = nI ln) (hln40 : ln ≤ 40) (lp : Nat → Nat) (hlp : ∀ k, k < ln → A 15 k = nI (lp k)) (hlp40 : ∀ k, k < ln → lp k < 40) (ax : Nat) (hax : ax < 3) (at0 : Int32) (but : Nat) (hbut : but < 40) : CM l yX1_isFace cX1_isFace 7 (some .boolean) rX1_isFace D b [.ref h, .int (nI ax), .int at0, .int (nI but)] σ (PIx (bI (an (fcR (w10) ax at0 but lp) ln)) σ) := by
  subst hw10
  exact c_X1_isFace l D b hM ln hln hln40 lp hlp hlp40 ax hax at0 but hbut
def rX1_isInLoop : Room := { frames := 1, cells := 0, slots := 0, locals := 12 }
theorem k_X1_isInLoop : CV yX1_isInLoop cX1_isInLoop 4 (some .boolean) 1 := ⟨q1910, qs65, q81, q1911, by decide +kernel, by decide +kernel, by decide +kernel⟩
set_option maxHeartbeats 1000000 in
theorem c_X1_isInLoop (l : Launch) (D : DD) (b : Nat) {h : Nat} {ad : Nat → Nat} {σ0 : Hp} {F : Nat → Int32} {A : Nat → Nat → Int32} {σ : Hp} (hM : MW D h ad σ0 F A σ) (ln : Nat) (hln : F 16 = nI ln) (hln40 : ln ≤ 40) (lp : Nat → Nat) (hlp : ∀ k, k < ln → A 15 k = nI (lp k)) (hlp40 : ∀ k, k < ln → lp k < 40) (q : Nat) (hq : q < 40) : CM l yX1_isInLoop cX1_isInLoop 4 (some .boolean) rX1_isInLoop D b [.ref h, .int (nI q)] σ (PIx (bI (an (ilR lp q) ln)) σ) := by
  refine CM_of [some (.ref h), some (.int (nI q)), none, none] RX1 (by decide) rfl (cat_all rfl) (Nat.le_of_ble_eq_true rfl) rfl ?_
  intro z hz hR hnm
  refine g_iconst (v := 0) (by decide) 1 rfl dX1_isInLoop_0 ?_
  refine g_istore_n rfl sa_2 2 rfl dX1_isInLoop_1 ?_
  refine g_iconst (v := 0) (by decide) 3 rfl dX1_isInLoop_2 ?_
  refine g_istore_n rfl sa_3 4 rfl dX1_isInLoop_3 ?_
  have lp4 : ∀ (fu i : Nat) (x2 : Int32), i ≤ ln → ln + 1 ≤ i + fu → (x2 = bI (an (ilR lp q) i)) → G z cX1_isInLoop RX1 4 rX1_isInLoop D b σ 0 0 4 [some (.ref h), some (.int (nI q)), some (.int x2), some (.int (nI i))] [] := by
    intro fu
    induction fu with
    | zero => intros; omega
    | succ fu ih4 =>
      intro i x2 hi hf hx
      refine g_iload_n rfl ld_3 5 rfl dX1_isInLoop_4 ?_
      refine g_aload_n rfl ld_0 6 rfl dX1_isInLoop_5 ?_
      refine g_getf (kf := 16) (v := .int (nI ln)) hM.1 (by rw [← hln]; rfl) rfl in_X1 (by decide) q1677 rfl 9 rfl dX1_isInLoop_6 ?_
      refine g_icmp_geN (a := i) (c := ln) rfl rfl (by omega) (by omega) 36 12 rfl (by decide) dX1_isInLoop_9 (fun c9 => ?_) (fun c9 => ?_)
      · refine g_iload_n rfl ld_2 37 rfl dX1_isInLoop_36 ?_
        obtain rfl : ln = i := by omega
        subst hx
        exact g_iret hR (nz_b _) (Nat.le_of_ble_eq_true rfl) (Nat.le_of_ble_eq_true rfl) ⟨rfl, rfl⟩ dX1_isInLoop_37
      · have hl4 := hlp40 i (by omega)
        refine g_iload_n rfl ld_2 13 rfl dX1_isInLoop_12 ?_
        have j28 : ∀ y : Int32, y = bI (ilR lp q i) → G z cX1_isInLoop RX1 4 rX1_isInLoop D b σ 0 0 28 [some (.ref h), some (.int (nI q)), some (.int x2), some (.int (nI i))] [.int y, .int x2] := by
          intro y hy
          refine g_ior 29 rfl dX1_isInLoop_28 ?_
          refine g_istore_n rfl sa_2 30 rfl dX1_isInLoop_29 ?_
          refine g_iinc (v := nI (i + 1)) ld_3 (nI_1 _) sa_3 33 rfl dX1_isInLoop_30 ?_
          refine g_goto 4 (by decide) dX1_isInLoop_33 ?_
          exact ih4 (i + 1) (x2 ||| y) (by omega) (by omega) (by rw [hx, hy, bI_or, an])
        refine g_aload_n rfl ld_0 14 rfl dX1_isInLoop_13 ?_
        refine g_getf (kf := 15) (v := .ref (ad 15)) hM.1 rfl rfl in_X1 (by decide) q1676 rfl 17 rfl dX1_isInLoop_14 ?_
        refine g_iload_n rfl ld_3 18 rfl dX1_isInLoop_17 ?_
        refine g_ialdE (j := i) (f := A 15) (v := nI (lp i)) hM.a15 rfl (by omega) (by decide) (hlp _ (by omega)) 19 rfl dX1_isInLoop_18 ?_
        refine g_iload_n rfl ld_1 20 rfl dX1_isInLoop_19 ?_
        refine g_icmp_neN (a := (lp i)) (c := q) rfl rfl (by omega) (by omega) 27 23 rfl (by decide) dX1_isInLoop_20 (fun c20 => ?_) (fun c20 => ?_)
        · refine g_iconst (v := 0) (by decide) 28 rfl dX1_isInLoop_27 ?_
          exact j28 ((0 : Int32)) (by simp [ilR, *]; try (first | rfl | decide))
        · refine g_iconst (v := 1) (by decide) 24 rfl dX1_isInLoop_23 ?_
          refine g_goto 28 (by decide) dX1_isInLoop_24 ?_
          exact j28 ((1 : Int32)) (by simp [ilR, *]; try (first | rfl | decide))
  exact lp4 (ln + 1) 0 ((0 : Int32)) (by omega) (by omega) (rfl)
