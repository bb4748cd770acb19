/-! THE REFERENCE, part 14: all looks -/
set_option maxRecDepth 100000
abbrev SA : Type := (Nat → Int32) × (Nat → Int32) × (Nat → Int32)
def inc (f : Nat → Int32) (j : Nat) (v : Int32) : Nat → Int32 := upd f j (f j + v)
def ptS (w : Nat → Int32) (st : SA) (u v s : Int32) : SA :=
  if (lkN w u v s 12).1 = 12 then st else (inc st.1 (lkN w u v s 12).1 1, inc st.2.1 (lkN w u v s 12).1 (bI (decide (1 < (lkN w u v s 12).2.2))), inc st.2.2 (sfR w (7 * (lkN w u v s 12).1) u v s) 1)
def la3 (w : Nat → Int32) (st : SA) (a b : Nat) : Nat → SA
  | 0 => st
  | s + 1 => ptS w (la3 w st a b s) (U a) (U b) (nI s)
def la2 (w : Nat → Int32) (st : SA) (a : Nat) : Nat → SA
  | 0 => st
  | b + 1 => la3 w (la2 w st a b) a b 2
def la1 (w : Nat → Int32) (st : SA) : Nat → SA
  | 0 => st
  | a + 1 => la2 w (la1 w st a) a 64
def zr (q : Nat → Int32) (n : Nat) : Nat → Int32 := fun x => if x < n then 0 else q x
theorem zr_0 (q : Nat → Int32) : zr q 0 = q := by funext x; simp [zr]
theorem zr_s (q : Nat → Int32) (n : Nat) : zr q (n + 1) = upd (zr q n) n 0 := by
  funext x
  simp only [zr, upd]
  by_cases h : x = n
  · subst h; simp
  · by_cases h2 : x < n
    · simp [h, h2, show x < n + 1 by omega]
    · simp [h, h2, show ¬ x < n + 1 by omega]
def eqS (p q : SA) : Prop := (∀ j, j < 12 → p.1 j = q.1 j) ∧ (∀ j, j < 12 → p.2.1 j = q.2.1 j) ∧ (∀ j, j < 3 → p.2.2 j = q.2.2 j)
theorem inc_eq {f g : Nat → Int32} {n : Nat} (h : ∀ j, j < n → f j = g j) {k : Nat} (hk : k < n) (v : Int32) : ∀ j, j < n → inc f k v j = inc g k v j := by
  intro j hj
  simp only [inc, upd]
  split
  · rw [h k hk]
  · exact h j hj
theorem ptS_eq {w : Nat → Int32} {p q : SA} (h : eqS p q) (u v s : Int32) : eqS (ptS w p u v s) (ptS w q u v s) := by
  simp only [ptS]
  by_cases e : (lkN w u v s 12).1 = 12
  · rw [if_pos e, if_pos e]; exact h
  · have h1 := lk_le12 w u v s (k := 12) (Nat.le_refl 12)
    have h2 := sfR_le w (7 * (lkN w u v s 12).1) u v s
    rw [if_neg e, if_neg e]
    exact ⟨inc_eq h.1 (by omega) _, inc_eq h.2.1 (by omega) _, inc_eq h.2.2 (by omega) _⟩
theorem la3_eq {w : Nat → Int32} {p q : SA} (h : eqS p q) (a b : Nat) : ∀ s, eqS (la3 w p a b s) (la3 w q a b s)
  | 0 => h
  | s + 1 => ptS_eq (la3_eq h a b s) _ _ _
theorem la2_eq {w : Nat → Int32} {p q : SA} (h : eqS p q) (a : Nat) : ∀ b, eqS (la2 w p a b) (la2 w q a b)
  | 0 => h
  | b + 1 => by rw [la2, la2]; exact la3_eq (la2_eq h a b) _ _ _
theorem la1_eq {w : Nat → Int32} {p q : SA} (h : eqS p q) : ∀ a, eqS (la1 w p a) (la1 w q a)
  | 0 => h
  | a + 1 => by rw [la1, la1]; exact la2_eq (la1_eq h a) _ _
def LAc (w : Nat → Int32) : SA := la1 w (fun _ => 0, fun _ => 0, fun _ => 0) 64
theorem z0_eq (a c f : Nat → Int32) : eqS (zr a 12, zr c 12, zr f 3) (fun _ => 0, fun _ => 0, fun _ => 0) := ⟨fun j hj => if_pos hj, fun j hj => if_pos hj, fun j hj => if_pos hj⟩
theorem LA_eq {w a c f : Nat → Int32} {p : SA} (h : p = la1 w (zr a 12, zr c 12, zr f 3) 64) : eqS p (LAc w) := by
  subst h
  exact la1_eq (z0_eq a c f) 64
def rX1_lookAll : Room := { frames := 4, cells := 0, slots := 0, locals := 81 }
theorem k_X1_lookAll : CV yX1_lookAll cX1_lookAll 5 none 0 := ⟨q1961, qs69, q81, q1962, by decide +kernel, by decide +kernel, by decide +kernel⟩
set_option maxHeartbeats 4000000 in
theorem c_X1_lookAll (l : Launch) (D : DD) (b : Nat) {h : Nat} {ad : Nat → Nat} {σ0 : Hp} {F : Nat → Int32} {A : Nat → Nat → Int32} {σ : Hp} (hM : MW D h ad σ0 F A σ) : CM l yX1_lookAll cX1_lookAll 5 none rX1_lookAll D b [.ref h] σ (PV (fun σ' => ∃ (f17 f18 f19 f20 : Int32) (st : SA), eqS st (LAc (A 0)) ∧ MW D h ad σ0 (upd (upd (upd (upd F 17 f17) 18 f18) 19 f19) 20 f20) (uA (uA (uA A 21 st.1) 22 st.2.1) 23 st.2.2) σ')) := by
  refine CM_of [some (.ref h), none, none, none, none] RX1 (by decide) rfl (cat_all rfl) (Nat.le_of_ble_eq_true rfl) rfl ?_
  intro z hz hR hnm
  refine g_iconst (v := 0) (by decide) 1 rfl dX1_lookAll_0 ?_
  refine g_istore_n rfl sa_1 2 rfl dX1_lookAll_1 ?_
  have lp2 : ∀ (fu i : Nat) (σ : Hp), i ≤ 12 → 12 + 1 ≤ i + fu → MW D h ad σ0 F (uA (uA A 21 (zr (A 21) i)) 22 (zr (A 22) i)) σ → G z cX1_lookAll RX1 5 rX1_lookAll D b σ 0 0 2 [some (.ref h), some (.int (nI i)), none, none, none] [] := by
    intro fu
    induction fu with
    | zero => intros; omega
    | succ fu ih2 =>
      intro i σ hi hf  hM
      refine g_iload_n rfl ld_1 3 rfl dX1_lookAll_2 ?_
      refine g_bipush (v := 12) (by decide) 5 rfl dX1_lookAll_3 ?_
      refine g_icmp_geN (a := i) (c := 12) rfl (show (12 : Int32) = nI 12 from rfl) (by omega) (by omega) 28 8 rfl (by decide) dX1_lookAll_5 (fun c5 => ?_) (fun c5 => ?_)
      · obtain rfl : i = 12 := by omega
        refine g_iconst (v := 0) (by decide) 29 rfl dX1_lookAll_28 ?_
        refine g_istore_n rfl sa_1 30 rfl dX1_lookAll_29 ?_
        have lp30 : ∀ (fu k : Nat) (σ : Hp), k ≤ 3 → 3 + 1 ≤ k + fu → MW D h ad σ0 F (uA (uA (uA A 21 (zr (A 21) 12)) 22 (zr (A 22) 12)) 23 (zr (A 23) k)) σ → G z cX1_lookAll RX1 5 rX1_lookAll D b σ 0 0 30 [some (.ref h), some (.int (nI k)), none, none, none] [] := by
          intro fu
          induction fu with
          | zero => intros; omega
          | succ fu ih30 =>
            intro k σ hk hf  hM
            refine g_iload_n rfl ld_1 31 rfl dX1_lookAll_30 ?_
            refine g_iconst (v := 3) (by decide) 32 rfl dX1_lookAll_31 ?_
            refine g_icmp_geN (a := k) (c := 3) rfl (show (3 : Int32) = nI 3 from rfl) (by omega) (by omega) 48 35 rfl (by decide) dX1_lookAll_32 (fun c32 => ?_) (fun c32 => ?_)
            · obtain rfl : k = 3 := by omega
              refine g_bipush (v := -32) (by decide) 50 rfl dX1_lookAll_48 ?_
              refine g_istore_n rfl sa_1 51 rfl dX1_lookAll_50 ?_
              rw [U_0]
              have lp51 : ∀ (fu a : Nat) (f17 f18 f19 f20 : Int32) (σ : Hp), a ≤ 64 → 64 + 1 ≤ a + fu → MW D h ad σ0 (upd (upd (upd (upd F 17 f17) 18 f18) 19 f19) 20 f20) (uA (uA (uA A 21 ((la1 (A 0) (zr (A 21) 12, zr (A 22) 12, zr (A 23) 3) a).1)) 22 ((la1 (A 0) (zr (A 21) 12, zr (A 22) 12, zr (A 23) 3) a).2.1)) 23 ((la1 (A 0) (zr (A 21) 12, zr (A 22) 12, zr (A 23) 3) a).2.2)) σ → G z cX1_lookAll RX1 5 rX1_lookAll D b σ 0 0 51 [some (.ref h), some (.int (U a)), none, none, none] [] := by
                intro fu
                induction fu with
                | zero => intros; omega
                | succ fu ih51 =>
                  intro a f17 f18 f19 f20 σ ha hf  hM
                  refine g_iload_n rfl ld_1 52 rfl dX1_lookAll_51 ?_
                  refine g_bipush (v := 32) (by decide) 54 rfl dX1_lookAll_52 ?_
                  refine g_icmp_ge 154 57 rfl (by decide) dX1_lookAll_54 (fun c54 => ?_) (fun c54 => ?_)
                  · obtain rfl : a = 64 := by have := mt (U_lt a ha).2 c54; omega
                    exact g_vret hR (Nat.le_of_ble_eq_true rfl) (Nat.le_of_ble_eq_true rfl) ⟨rfl, f17, f18, f19, f20, _, LA_eq rfl, hM⟩ dX1_lookAll_154
                  · have ha64 := (U_lt a ha).1 c54
                    refine g_bipush (v := -32) (by decide) 59 rfl dX1_lookAll_57 ?_
                    refine g_istore_n rfl sa_2 60 rfl dX1_lookAll_59 ?_
                    rw [U_0]
                    have lp60 : ∀ (fu c : Nat) (g17 g18 g19 g20 : Int32) (σ : Hp), c ≤ 64 → 64 + 1 ≤ c + fu → MW D h ad σ0 (upd (upd (upd (upd F 17 g17) 18 g18) 19 g19) 20 g20) (uA (uA (uA A 21 ((la2 (A 0) (la1 (A 0) (zr (A 21) 12, zr (A 22) 12, zr (A 23) 3) a) a c).1)) 22 ((la2 (A 0) (la1 (A 0) (zr (A 21) 12, zr (A 22) 12, zr (A 23) 3) a) a c).2.1)) 23 ((la2 (A 0) (la1 (A 0) (zr (A 21) 12, zr (A 22) 12, zr (A 23) 3) a) a c).2.2)) σ → G z cX1_lookAll RX1 5 rX1_lookAll D b σ 0 0 60 [some (.ref h), some (.int (U a)), some (.int (U c)), none, none] [] := by
                      intro fu
                      induction fu with
                      | zero => intros; omega
                      | succ fu ih60 =>
                        intro c g17 g18 g19 g20 σ hc hf  hM
                        refine g_iload_n rfl ld_2 61 rfl dX1_lookAll_60 ?_
                        refine g_bipush (v := 32) (by decide) 63 rfl dX1_lookAll_61 ?_
                        refine g_icmp_ge 148 66 rfl (by decide) dX1_lookAll_63 (fun c63 => ?_) (fun c63 => ?_)
                        · obtain rfl : c = 64 := by have := mt (U_lt c hc).2 c63; omega
                          refine g_iinc (v := (U a) + 1) ld_1 (of1 _) sa_1 151 rfl dX1_lookAll_148 ?_
                          rw [U_s a ha64]
                          refine g_goto 51 (by decide) dX1_lookAll_151 ?_
                          refine G_lv dr_2 ?_
                          have hM : MW D h ad σ0 (upd (upd (upd (upd F 17 g17) 18 g18) 19 g19) 20 g20) (uA (uA (uA A 21 ((la1 (A 0) (zr (A 21) 12, zr (A 22) 12, zr (A 23) 3) ((a + 1))).1)) 22 ((la1 (A 0) (zr (A 21) 12, zr (A 22) 12, zr (A 23) 3) ((a + 1))).2.1)) 23 ((la1 (A 0) (zr (A 21) 12, zr (A 22) 12, zr (A 23) 3) ((a + 1))).2.2)) σ := by
                            have e2 : uA (uA (uA A 21 ((la1 (A 0) (zr (A 21) 12, zr (A 22) 12, zr (A 23) 3) ((a + 1))).1)) 22 ((la1 (A 0) (zr (A 21) 12, zr (A 22) 12, zr (A 23) 3) ((a + 1))).2.1)) 23 ((la1 (A 0) (zr (A 21) 12, zr (A 22) 12, zr (A 23) 3) ((a + 1))).2.2) = uA (uA (uA A 21 ((la2 (A 0) (la1 (A 0) (zr (A 21) 12, zr (A 22) 12, zr (A 23) 3) a) a 64).1)) 22 ((la2 (A 0) (la1 (A 0) (zr (A 21) 12, zr (A 22) 12, zr (A 23) 3) a) a 64).2.1)) 23 ((la2 (A 0) (la1 (A 0) (zr (A 21) 12, zr (A 22) 12, zr (A 23) 3) a) a 64).2.2) := by rw [la1]
                            rw [e2]; exact hM
                          exact ih51 (a + 1) g17 g18 g19 g20 σ (by omega) (by omega)  hM
                        · have hc64 := (U_lt c hc).1 c63
                          refine g_iconst (v := 0) (by decide) 67 rfl dX1_lookAll_66 ?_
                          refine g_istore_n rfl sa_3 68 rfl dX1_lookAll_67 ?_
                          have lp68 : ∀ (fu s : Nat) (h17 h18 h19 h20 : Int32) (σ : Hp), s ≤ 2 → 2 + 1 ≤ s + fu → MW D h ad σ0 (upd (upd (upd (upd F 17 h17) 18 h18) 19 h19) 20 h20) (uA (uA (uA A 21 ((la3 (A 0) (la2 (A 0) (la1 (A 0) (zr (A 21) 12, zr (A 22) 12, zr (A 23) 3) a) a c) a c s).1)) 22 ((la3 (A 0) (la2 (A 0) (la1 (A 0) (zr (A 21) 12, zr (A 22) 12, zr (A 23) 3) a) a c) a c s).2.1)) 23 ((la3 (A 0) (la2 (A 0) (la1 (A 0) (zr (A 21) 12, zr (A 22) 12, zr (A 23) 3) a) a c) a c s).2.2)) σ → G z cX1_lookAll RX1 5 rX1_lookAll D b σ 0 0 68 [some (.ref h), some (.int (U a)), some (.int (U c)), some (.int (nI s)), none] [] := by
                            intro fu
                            induction fu with
                            | zero => intros; omega
                            | succ fu ih68 =>
                              intro s h17 h18 h19 h20 σ hs hf  hM
                              refine g_iload_n rfl ld_3 69 rfl dX1_lookAll_68 ?_
                              refine g_iconst (v := 2) (by decide) 70 rfl dX1_lookAll_69 ?_
                              refine g_icmp_geN (a := s) (c := 2) rfl (show (2 : Int32) = nI 2 from rfl) (by omega) (by omega) 142 73 rfl (by decide) dX1_lookAll_70 (fun c70 => ?_) (fun c70 => ?_)
                              · obtain rfl : s = 2 := by omega
                                refine g_iinc (v := (U c) + 1) ld_2 (of1 _) sa_2 145 rfl dX1_lookAll_142 ?_
                                rw [U_s c hc64]
                                refine g_goto 60 (by decide) dX1_lookAll_145 ?_
                                refine G_lv dr_3 ?_
                                have hM : MW D h ad σ0 (upd (upd (upd (upd F 17 h17) 18 h18) 19 h19) 20 h20) (uA (uA (uA A 21 ((la2 (A 0) (la1 (A 0) (zr (A 21) 12, zr (A 22) 12, zr (A 23) 3) a) a ((c + 1))).1)) 22 ((la2 (A 0) (la1 (A 0) (zr (A 21) 12, zr (A 22) 12, zr (A 23) 3) a) a ((c + 1))).2.1)) 23 ((la2 (A 0) (la1 (A 0) (zr (A 21) 12, zr (A 22) 12, zr (A 23) 3) a) a ((c + 1))).2.2)) σ := by
                                  have e2 : uA (uA (uA A 21 ((la2 (A 0) (la1 (A 0) (zr (A 21) 12, zr (A 22) 12, zr (A 23) 3) a) a ((c + 1))).1)) 22 ((la2 (A 0) (la1 (A 0) (zr (A 21) 12, zr (A 22) 12, zr (A 23) 3) a) a ((c + 1))).2.1)) 23 ((la2 (A 0) (la1 (A 0) (zr (A 21) 12, zr (A 22) 12, zr (A 23) 3) a) a ((c + 1))).2.2) = uA (uA (uA A 21 ((la3 (A 0) (la2 (A 0) (la1 (A 0) (zr (A 21) 12, zr (A 22) 12, zr (A 23) 3) a) a c) a c 2).1)) 22 ((la3 (A 0) (la2 (A 0) (la1 (A 0) (zr (A 21) 12, zr (A 22) 12, zr (A 23) 3) a) a c) a c 2).2.1)) 23 ((la3 (A 0) (la2 (A 0) (la1 (A 0) (zr (A 21) 12, zr (A 22) 12, zr (A 23) 3) a) a c) a c 2).2.2) := by rw [la2]
                                  rw [e2]; exact hM
                                exact ih60 (c + 1) h17 h18 h19 h20 σ (by omega) (by omega)  hM
                              · refine g_aload_n rfl ld_0 74 rfl dX1_lookAll_73 ?_
                                refine g_iload_n rfl ld_1 75 rfl dX1_lookAll_74 ?_
                                refine g_iload_n rfl ld_2 76 rfl dX1_lookAll_75 ?_
                                refine g_iload_n rfl ld_3 77 rfl dX1_lookAll_76 ?_
                                refine g_callV (As := [.int (U a), .int (U c), .int (nI s)]) (rest := []) (ci := 1) (v_X1_look z.l D b hM (w0 := A 0) rfl (U a) (U c) (nI s)) k_X1_look q1939 hM.1 rfl rfl rfl rfl (Nat.le_of_ble_eq_true rfl) ⟨Nat.le_of_ble_eq_true rfl, Nat.le_of_ble_eq_true rfl⟩ 0 0 (Nat.le_of_ble_eq_true rfl) (Nat.le_of_ble_eq_true rfl) (Nat.le_of_ble_eq_true rfl) (Nat.le_of_ble_eq_true rfl) 80 rfl dX1_lookAll_77 (fun v σ1 hq => ?_)
                                obtain ⟨_, rfl, f17, f18, rfl, hM⟩ := hq
                                revert σ1
                                intro σ hM
                                have hM : MW D h ad σ0 (upd (upd (upd (upd F 20 ((lkN (A 0) (U a) (U c) (nI s) 12).2.2)) 17 f17) 18 f18) 19 (fc19 (A 0) (U a) (U c) (nI s) (lkN (A 0) (U a) (U c) (nI s) 12).1 h19)) (uA (uA (uA A 21 ((la3 (A 0) (la2 (A 0) (la1 (A 0) (zr (A 21) 12, zr (A 22) 12, zr (A 23) 3) a) a c) a c s).1)) 22 ((la3 (A 0) (la2 (A 0) (la1 (A 0) (zr (A 21) 12, zr (A 22) 12, zr (A 23) 3) a) a c) a c s).2.1)) 23 ((la3 (A 0) (la2 (A 0) (la1 (A 0) (zr (A 21) 12, zr (A 22) 12, zr (A 23) 3) a) a c) a c s).2.2)) σ := by
                                  have e9 : upd (upd (upd (upd F 20 ((lkN (A 0) (U a) (U c) (nI s) 12).2.2)) 17 f17) 18 f18) 19 (fc19 (A 0) (U a) (U c) (nI s) (lkN (A 0) (U a) (U c) (nI s) 12).1 h19) = upd (upd (upd (upd (upd (upd (upd (upd F 17 h17) 18 h18) 19 h19) 20 h20) 20 ((lkN (A 0) (U a) (U c) (nI s) 12).2.2)) 17 f17) 18 f18) 19 (fc19 (A 0) (U a) (U c) (nI s) (lkN (A 0) (U a) (U c) (nI s) 12).1 h19) := by funext x9; by_cases h9_17 : x9 = 17; (subst h9_17; simp [upd_ap]); by_cases h9_18 : x9 = 18; (subst h9_18; simp [upd_ap]); by_cases h9_19 : x9 = 19; (subst h9_19; simp [upd_ap]); by_cases h9_20 : x9 = 20; (subst h9_20; simp [upd_ap]); simp [upd_ap, h9_17, h9_18, h9_19, h9_20]
                                  rw [e9]; exact hM
                                refine g_istore sa_4 82 rfl dX1_lookAll_80 ?_
                                have hlk := lk_le12 (A 0) (U a) (U c) (nI s) (k := 12) (by omega)
                                refine g_iload ld_4 84 rfl dX1_lookAll_82 ?_
                                refine g_bipush (v := -106) (by decide) 86 rfl dX1_lookAll_84 ?_
                                refine g_icmp_eq 136 89 rfl (by decide) dX1_lookAll_86 (fun c86 => ?_) (fun c86 => ?_)
                                · have e4 : la3 (A 0) (la2 (A 0) (la1 (A 0) (zr (A 21) 12, zr (A 22) 12, zr (A 23) 3) a) a c) a c (s + 1) = la3 (A 0) (la2 (A 0) (la1 (A 0) (zr (A 21) 12, zr (A 22) 12, zr (A 23) 3) a) a c) a c s := by rw [la3, ptS, if_pos ((oM_eq hlk).1 c86)]
                                  refine g_iinc (v := nI (s + 1)) ld_3 (nI_1 _) sa_3 139 rfl dX1_lookAll_136 ?_
                                  refine g_goto 68 (by decide) dX1_lookAll_139 ?_
                                  refine G_lv dr_4 ?_
                                  have hM : MW D h ad σ0 (upd (upd (upd (upd F 17 f17) 18 f18) 19 ((fc19 (A 0) (U a) (U c) (nI s) (lkN (A 0) (U a) (U c) (nI s) 12).1 h19))) 20 (((lkN (A 0) (U a) (U c) (nI s) 12).2.2))) (uA (uA (uA A 21 ((la3 (A 0) (la2 (A 0) (la1 (A 0) (zr (A 21) 12, zr (A 22) 12, zr (A 23) 3) a) a c) a c ((s + 1))).1)) 22 ((la3 (A 0) (la2 (A 0) (la1 (A 0) (zr (A 21) 12, zr (A 22) 12, zr (A 23) 3) a) a c) a c ((s + 1))).2.1)) 23 ((la3 (A 0) (la2 (A 0) (la1 (A 0) (zr (A 21) 12, zr (A 22) 12, zr (A 23) 3) a) a c) a c ((s + 1))).2.2)) σ := by
                                    have e1 : upd (upd (upd (upd F 17 f17) 18 f18) 19 ((fc19 (A 0) (U a) (U c) (nI s) (lkN (A 0) (U a) (U c) (nI s) 12).1 h19))) 20 (((lkN (A 0) (U a) (U c) (nI s) 12).2.2)) = upd (upd (upd (upd F 20 ((lkN (A 0) (U a) (U c) (nI s) 12).2.2)) 17 f17) 18 f18) 19 (fc19 (A 0) (U a) (U c) (nI s) (lkN (A 0) (U a) (U c) (nI s) 12).1 h19) := by funext x9; by_cases h9_17 : x9 = 17; (subst h9_17; simp [upd_ap]); by_cases h9_18 : x9 = 18; (subst h9_18; simp [upd_ap]); by_cases h9_19 : x9 = 19; (subst h9_19; simp [upd_ap]); by_cases h9_20 : x9 = 20; (subst h9_20; simp [upd_ap]); simp [upd_ap, h9_17, h9_18, h9_19, h9_20]
                                    have e2 : uA (uA (uA A 21 ((la3 (A 0) (la2 (A 0) (la1 (A 0) (zr (A 21) 12, zr (A 22) 12, zr (A 23) 3) a) a c) a c ((s + 1))).1)) 22 ((la3 (A 0) (la2 (A 0) (la1 (A 0) (zr (A 21) 12, zr (A 22) 12, zr (A 23) 3) a) a c) a c ((s + 1))).2.1)) 23 ((la3 (A 0) (la2 (A 0) (la1 (A 0) (zr (A 21) 12, zr (A 22) 12, zr (A 23) 3) a) a c) a c ((s + 1))).2.2) = uA (uA (uA A 21 ((la3 (A 0) (la2 (A 0) (la1 (A 0) (zr (A 21) 12, zr (A 22) 12, zr (A 23) 3) a) a c) a c s).1)) 22 ((la3 (A 0) (la2 (A 0) (la1 (A 0) (zr (A 21) 12, zr (A 22) 12, zr (A 23) 3) a) a c) a c s).2.1)) 23 ((la3 (A 0) (la2 (A 0) (la1 (A 0) (zr (A 21) 12, zr (A 22) 12, zr (A 23) 3) a) a c) a c s).2.2) := by rw [e4]
                                    rw [e1, e2]; exact hM
                                  exact ih68 (s + 1) f17 f18 (fc19 (A 0) (U a) (U c) (nI s) (lkN (A 0) (U a) (U c) (nI s) 12).1 h19) ((lkN (A 0) (U a) (U c) (nI s) 12).2.2) σ (by omega) (by omega)  hM
                                · obtain ⟨q, hq9⟩ : ∃ q, (lkN (A 0) (U a) (U c) (nI s) 12).1 = q := ⟨_, rfl⟩
                                  rw [hq9] at hlk hM c86
                                  have hq12 : q < 12 := by have := mt (oM_eq hlk).2 c86; omega
                                  rw [hq9, oM_lt hq12]
                                  have hsf := sfR_le (A 0) (7 * q) (U a) (U c) (nI s)
                                  have hf19 : fc19 (A 0) (U a) (U c) (nI s) q h19 = nI (sfR (A 0) (7 * q) (U a) (U c) (nI s)) := if_neg (by omega)
                                  refine g_aload_n rfl ld_0 90 rfl dX1_lookAll_89 ?_
                                  refine g_getf (kf := 21) (v := .ref (ad 21)) hM.1 rfl rfl in_X1 (by decide) q1682 rfl 93 rfl dX1_lookAll_90 ?_
                                  refine g_iload ld_4 95 rfl dX1_lookAll_93 ?_
                                  refine g_dup2 rfl rfl 96 rfl dX1_lookAll_95 ?_
                                  refine g_iald (j := q) (f := (la3 (A 0) (la2 (A 0) (la1 (A 0) (zr (A 21) 12, zr (A 22) 12, zr (A 23) 3) a) a c) a c s).1) hM.a21 rfl (by omega) (by decide) 97 rfl dX1_lookAll_96 ?_
                                  refine g_iconst (v := 1) (by decide) 98 rfl dX1_lookAll_97 ?_
                                  refine g_iadd 99 rfl dX1_lookAll_98 ?_
                                  have hM : MW D h ad σ0 (upd (upd (upd (upd F 20 ((lkN (A 0) (U a) (U c) (nI s) 12).2.2)) 17 f17) 18 f18) 19 (fc19 (A 0) (U a) (U c) (nI s) q h19)) (uA (uA (uA A 22 ((la3 (A 0) (la2 (A 0) (la1 (A 0) (zr (A 21) 12, zr (A 22) 12, zr (A 23) 3) a) a c) a c s).2.1)) 23 ((la3 (A 0) (la2 (A 0) (la1 (A 0) (zr (A 21) 12, zr (A 22) 12, zr (A 23) 3) a) a c) a c s).2.2)) 21 ((la3 (A 0) (la2 (A 0) (la1 (A 0) (zr (A 21) 12, zr (A 22) 12, zr (A 23) 3) a) a c) a c s).1)) σ := by
                                    have e9 : uA (uA (uA A 22 ((la3 (A 0) (la2 (A 0) (la1 (A 0) (zr (A 21) 12, zr (A 22) 12, zr (A 23) 3) a) a c) a c s).2.1)) 23 ((la3 (A 0) (la2 (A 0) (la1 (A 0) (zr (A 21) 12, zr (A 22) 12, zr (A 23) 3) a) a c) a c s).2.2)) 21 ((la3 (A 0) (la2 (A 0) (la1 (A 0) (zr (A 21) 12, zr (A 22) 12, zr (A 23) 3) a) a c) a c s).1) = uA (uA (uA A 21 ((la3 (A 0) (la2 (A 0) (la1 (A 0) (zr (A 21) 12, zr (A 22) 12, zr (A 23) 3) a) a c) a c s).1)) 22 ((la3 (A 0) (la2 (A 0) (la1 (A 0) (zr (A 21) 12, zr (A 22) 12, zr (A 23) 3) a) a c) a c s).2.1)) 23 ((la3 (A 0) (la2 (A 0) (la1 (A 0) (zr (A 21) 12, zr (A 22) 12, zr (A 23) 3) a) a c) a c s).2.2) := by funext x9; by_cases h9 : x9 = 21 <;> simp [uA_ap, h9]
                                    rw [e9]; exact hM
                                  refine gm_astU (j := q) 21 (by decide) (by decide) hM rfl (by simp only [msz]; omega) 100 rfl dX1_lookAll_99 (fun σ hM => ?_)
                                  refine g_aload_n rfl ld_0 101 rfl dX1_lookAll_100 ?_
                                  refine g_getf (kf := 22) (v := .ref (ad 22)) hM.1 rfl rfl in_X1 (by decide) q1683 rfl 104 rfl dX1_lookAll_101 ?_
                                  refine g_iload ld_4 106 rfl dX1_lookAll_104 ?_
                                  refine g_dup2 rfl rfl 107 rfl dX1_lookAll_106 ?_
                                  refine g_iald (j := q) (f := (la3 (A 0) (la2 (A 0) (la1 (A 0) (zr (A 21) 12, zr (A 22) 12, zr (A 23) 3) a) a c) a c s).2.1) hM.a22 rfl (by omega) (by decide) 108 rfl dX1_lookAll_107 ?_
                                  have j121 : ∀ y : Int32, y = bI (decide (1 < (lkN (A 0) (U a) (U c) (nI s) 12).2.2)) → G z cX1_lookAll RX1 5 rX1_lookAll D b σ 0 0 121 [some (.ref h), some (.int (U a)), some (.int (U c)), some (.int (nI s)), some (.int (nI q))] [.int y, .int (((la3 (A 0) (la2 (A 0) (la1 (A 0) (zr (A 21) 12, zr (A 22) 12, zr (A 23) 3) a) a c) a c s).2.1) q), .int (nI q), .ref (ad 22)] := by
                                    intro y hy
                                    refine g_iadd 122 rfl dX1_lookAll_121 ?_
                                    have hM : MW D h ad σ0 (upd (upd (upd (upd F 20 ((lkN (A 0) (U a) (U c) (nI s) 12).2.2)) 17 f17) 18 f18) 19 (fc19 (A 0) (U a) (U c) (nI s) q h19)) (uA (uA (uA A 23 ((la3 (A 0) (la2 (A 0) (la1 (A 0) (zr (A 21) 12, zr (A 22) 12, zr (A 23) 3) a) a c) a c s).2.2)) 21 (upd ((la3 (A 0) (la2 (A 0) (la1 (A 0) (zr (A 21) 12, zr (A 22) 12, zr (A 23) 3) a) a c) a c s).1) q ((((la3 (A 0) (la2 (A 0) (la1 (A 0) (zr (A 21) 12, zr (A 22) 12, zr (A 23) 3) a) a c) a c s).1) q) + ((1 : Int32))))) 22 ((la3 (A 0) (la2 (A 0) (la1 (A 0) (zr (A 21) 12, zr (A 22) 12, zr (A 23) 3) a) a c) a c s).2.1)) σ := by
                                      have e9 : uA (uA (uA A 23 ((la3 (A 0) (la2 (A 0) (la1 (A 0) (zr (A 21) 12, zr (A 22) 12, zr (A 23) 3) a) a c) a c s).2.2)) 21 (upd ((la3 (A 0) (la2 (A 0) (la1 (A 0) (zr (A 21) 12, zr (A 22) 12, zr (A 23) 3) a) a c) a c s).1) q ((((la3 (A 0) (la2 (A 0) (la1 (A 0) (zr (A 21) 12, zr (A 22) 12, zr (A 23) 3) a) a c) a c s).1) q) + ((1 : Int32))))) 22 ((la3 (A 0) (la2 (A 0) (la1 (A 0) (zr (A 21) 12, zr (A 22) 12, zr (A 23) 3) a) a c) a c s).2.1) = uA (uA (uA A 22 ((la3 (A 0) (la2 (A 0) (la1 (A 0) (zr (A 21) 12, zr (A 22) 12, zr (A 23) 3) a) a c) a c s).2.1)) 23 ((la3 (A 0) (la2 (A 0) (la1 (A 0) (zr (A 21) 12, zr (A 22) 12, zr (A 23) 3) a) a c) a c s).2.2)) 21 (upd ((la3 (A 0) (la2 (A 0) (la1 (A 0) (zr (A 21) 12, zr (A 22) 12, zr (A 23) 3) a) a c) a c s).1) q ((((la3 (A 0) (la2 (A 0) (la1 (A 0) (zr (A 21) 12, zr (A 22) 12, zr (A 23) 3) a) a c) a c s).1) q) + ((1 : Int32)))) := by funext x9; by_cases h9 : x9 = 22 <;> simp [uA_ap, h9]
                                      rw [e9]; exact hM
                                    refine gm_astU (j := q) 22 (by decide) (by decide) hM rfl (by simp only [msz]; omega) 123 rfl dX1_lookAll_122 (fun σ hM => ?_)
                                    refine g_aload_n rfl ld_0 124 rfl dX1_lookAll_123 ?_
                                    refine g_getf (kf := 23) (v := .ref (ad 23)) hM.1 rfl rfl in_X1 (by decide) q1684 rfl 127 rfl dX1_lookAll_124 ?_
                                    refine g_aload_n rfl ld_0 128 rfl dX1_lookAll_127 ?_
                                    have g9 : (upd (upd (upd (upd F 20 ((lkN (A 0) (U a) (U c) (nI s) 12).2.2)) 17 f17) 18 f18) 19 (fc19 (A 0) (U a) (U c) (nI s) q h19)) 19 = fc19 (A 0) (U a) (U c) (nI s) q h19 := (upd_s _ _ _)
                                    refine g_getf (kf := 19) (v := .int (fc19 (A 0) (U a) (U c) (nI s) q h19)) hM.1 (mfs_get (by decide) g9) rfl in_X1 (by decide) q1680 rfl 131 rfl dX1_lookAll_128 ?_
                                    refine g_dup2 rfl rfl 132 rfl dX1_lookAll_131 ?_
                                    refine g_iald (j := (sfR (A 0) (7 * q) (U a) (U c) (nI s))) (f := (la3 (A 0) (la2 (A 0) (la1 (A 0) (zr (A 21) 12, zr (A 22) 12, zr (A 23) 3) a) a c) a c s).2.2) hM.a23 hf19 (by omega) (by decide) 133 rfl dX1_lookAll_132 ?_
                                    refine g_iconst (v := 1) (by decide) 134 rfl dX1_lookAll_133 ?_
                                    refine g_iadd 135 rfl dX1_lookAll_134 ?_
                                    have hM : MW D h ad σ0 (upd (upd (upd (upd F 20 ((lkN (A 0) (U a) (U c) (nI s) 12).2.2)) 17 f17) 18 f18) 19 (fc19 (A 0) (U a) (U c) (nI s) q h19)) (uA (uA (uA A 21 (upd ((la3 (A 0) (la2 (A 0) (la1 (A 0) (zr (A 21) 12, zr (A 22) 12, zr (A 23) 3) a) a c) a c s).1) q ((((la3 (A 0) (la2 (A 0) (la1 (A 0) (zr (A 21) 12, zr (A 22) 12, zr (A 23) 3) a) a c) a c s).1) q) + ((1 : Int32))))) 22 (upd ((la3 (A 0) (la2 (A 0) (la1 (A 0) (zr (A 21) 12, zr (A 22) 12, zr (A 23) 3) a) a c) a c s).2.1) q ((((la3 (A 0) (la2 (A 0) (la1 (A 0) (zr (A 21) 12, zr (A 22) 12, zr (A 23) 3) a) a c) a c s).2.1) q) + y))) 23 ((la3 (A 0) (la2 (A 0) (la1 (A 0) (zr (A 21) 12, zr (A 22) 12, zr (A 23) 3) a) a c) a c s).2.2)) σ := by
                                      have e9 : uA (uA (uA A 21 (upd ((la3 (A 0) (la2 (A 0) (la1 (A 0) (zr (A 21) 12, zr (A 22) 12, zr (A 23) 3) a) a c) a c s).1) q ((((la3 (A 0) (la2 (A 0) (la1 (A 0) (zr (A 21) 12, zr (A 22) 12, zr (A 23) 3) a) a c) a c s).1) q) + ((1 : Int32))))) 22 (upd ((la3 (A 0) (la2 (A 0) (la1 (A 0) (zr (A 21) 12, zr (A 22) 12, zr (A 23) 3) a) a c) a c s).2.1) q ((((la3 (A 0) (la2 (A 0) (la1 (A 0) (zr (A 21) 12, zr (A 22) 12, zr (A 23) 3) a) a c) a c s).2.1) q) + y))) 23 ((la3 (A 0) (la2 (A 0) (la1 (A 0) (zr (A 21) 12, zr (A 22) 12, zr (A 23) 3) a) a c) a c s).2.2) = uA (uA (uA A 23 ((la3 (A 0) (la2 (A 0) (la1 (A 0) (zr (A 21) 12, zr (A 22) 12, zr (A 23) 3) a) a c) a c s).2.2)) 21 (upd ((la3 (A 0) (la2 (A 0) (la1 (A 0) (zr (A 21) 12, zr (A 22) 12, zr (A 23) 3) a) a c) a c s).1) q ((((la3 (A 0) (la2 (A 0) (la1 (A 0) (zr (A 21) 12, zr (A 22) 12, zr (A 23) 3) a) a c) a c s).1) q) + ((1 : Int32))))) 22 (upd ((la3 (A 0) (la2 (A 0) (la1 (A 0) (zr (A 21) 12, zr (A 22) 12, zr (A 23) 3) a) a c) a c s).2.1) q ((((la3 (A 0) (la2 (A 0) (la1 (A 0) (zr (A 21) 12, zr (A 22) 12, zr (A 23) 3) a) a c) a c s).2.1) q) + y)) := by funext x9; by_cases h9 : x9 = 23 <;> simp [uA_ap, h9]
                                      rw [e9]; exact hM
                                    refine gm_astU (j := (sfR (A 0) (7 * q) (U a) (U c) (nI s))) 23 (by decide) (by decide) hM hf19 (by simp only [msz]; omega) 136 rfl dX1_lookAll_135 (fun σ hM => ?_)
                                    have e4 : la3 (A 0) (la2 (A 0) (la1 (A 0) (zr (A 21) 12, zr (A 22) 12, zr (A 23) 3) a) a c) a c (s + 1) = (inc (la3 (A 0) (la2 (A 0) (la1 (A 0) (zr (A 21) 12, zr (A 22) 12, zr (A 23) 3) a) a c) a c s).1 q 1, inc (la3 (A 0) (la2 (A 0) (la1 (A 0) (zr (A 21) 12, zr (A 22) 12, zr (A 23) 3) a) a c) a c s).2.1 q y, inc (la3 (A 0) (la2 (A 0) (la1 (A 0) (zr (A 21) 12, zr (A 22) 12, zr (A 23) 3) a) a c) a c s).2.2 (sfR (A 0) (7 * q) (U a) (U c) (nI s)) 1) := by
                                      rw [la3, ptS, hq9, if_neg (by omega), ← hy]
                                    refine g_iinc (v := nI (s + 1)) ld_3 (nI_1 _) sa_3 139 rfl dX1_lookAll_136 ?_
                                    refine g_goto 68 (by decide) dX1_lookAll_139 ?_
                                    refine G_lv dr_4 ?_
                                    have hM : MW D h ad σ0 (upd (upd (upd (upd F 17 f17) 18 f18) 19 ((fc19 (A 0) (U a) (U c) (nI s) q h19))) 20 (((lkN (A 0) (U a) (U c) (nI s) 12).2.2))) (uA (uA (uA A 21 ((la3 (A 0) (la2 (A 0) (la1 (A 0) (zr (A 21) 12, zr (A 22) 12, zr (A 23) 3) a) a c) a c ((s + 1))).1)) 22 ((la3 (A 0) (la2 (A 0) (la1 (A 0) (zr (A 21) 12, zr (A 22) 12, zr (A 23) 3) a) a c) a c ((s + 1))).2.1)) 23 ((la3 (A 0) (la2 (A 0) (la1 (A 0) (zr (A 21) 12, zr (A 22) 12, zr (A 23) 3) a) a c) a c ((s + 1))).2.2)) σ := by
                                      have e1 : upd (upd (upd (upd F 17 f17) 18 f18) 19 ((fc19 (A 0) (U a) (U c) (nI s) q h19))) 20 (((lkN (A 0) (U a) (U c) (nI s) 12).2.2)) = upd (upd (upd (upd F 20 ((lkN (A 0) (U a) (U c) (nI s) 12).2.2)) 17 f17) 18 f18) 19 (fc19 (A 0) (U a) (U c) (nI s) q h19) := by funext x9; by_cases h9_17 : x9 = 17; (subst h9_17; simp [upd_ap]); by_cases h9_18 : x9 = 18; (subst h9_18; simp [upd_ap]); by_cases h9_19 : x9 = 19; (subst h9_19; simp [upd_ap]); by_cases h9_20 : x9 = 20; (subst h9_20; simp [upd_ap]); simp [upd_ap, h9_17, h9_18, h9_19, h9_20]
                                      have e2 : uA (uA (uA A 21 ((la3 (A 0) (la2 (A 0) (la1 (A 0) (zr (A 21) 12, zr (A 22) 12, zr (A 23) 3) a) a c) a c ((s + 1))).1)) 22 ((la3 (A 0) (la2 (A 0) (la1 (A 0) (zr (A 21) 12, zr (A 22) 12, zr (A 23) 3) a) a c) a c ((s + 1))).2.1)) 23 ((la3 (A 0) (la2 (A 0) (la1 (A 0) (zr (A 21) 12, zr (A 22) 12, zr (A 23) 3) a) a c) a c ((s + 1))).2.2) = uA (uA (uA A 21 (upd ((la3 (A 0) (la2 (A 0) (la1 (A 0) (zr (A 21) 12, zr (A 22) 12, zr (A 23) 3) a) a c) a c s).1) q ((((la3 (A 0) (la2 (A 0) (la1 (A 0) (zr (A 21) 12, zr (A 22) 12, zr (A 23) 3) a) a c) a c s).1) q) + ((1 : Int32))))) 22 (upd ((la3 (A 0) (la2 (A 0) (la1 (A 0) (zr (A 21) 12, zr (A 22) 12, zr (A 23) 3) a) a c) a c s).2.1) q ((((la3 (A 0) (la2 (A 0) (la1 (A 0) (zr (A 21) 12, zr (A 22) 12, zr (A 23) 3) a) a c) a c s).2.1) q) + y))) 23 (upd ((la3 (A 0) (la2 (A 0) (la1 (A 0) (zr (A 21) 12, zr (A 22) 12, zr (A 23) 3) a) a c) a c s).2.2) ((sfR (A 0) (7 * q) (U a) (U c) (nI s))) ((((la3 (A 0) (la2 (A 0) (la1 (A 0) (zr (A 21) 12, zr (A 22) 12, zr (A 23) 3) a) a c) a c s).2.2) ((sfR (A 0) (7 * q) (U a) (U c) (nI s)))) + ((1 : Int32)))) := by rw [e4]; funext x9; by_cases h9_21 : x9 = 21; (subst h9_21; simp [uA_ap, inc]); by_cases h9_22 : x9 = 22; (subst h9_22; simp [uA_ap, inc]); by_cases h9_23 : x9 = 23; (subst h9_23; simp [uA_ap, inc]); simp [uA_ap, h9_21, h9_22, h9_23]
                                      rw [e1, e2]; exact hM
                                    exact ih68 (s + 1) f17 f18 (fc19 (A 0) (U a) (U c) (nI s) q h19) ((lkN (A 0) (U a) (U c) (nI s) 12).2.2) σ (by omega) (by omega)  hM
                                  refine g_aload_n rfl ld_0 109 rfl dX1_lookAll_108 ?_
                                  have g9 : (upd (upd (upd (upd F 20 ((lkN (A 0) (U a) (U c) (nI s) 12).2.2)) 17 f17) 18 f18) 19 (fc19 (A 0) (U a) (U c) (nI s) q h19)) 20 = (lkN (A 0) (U a) (U c) (nI s) 12).2.2 := (Eq.trans (upd_n (by decide)) (Eq.trans (upd_n (by decide)) (Eq.trans (upd_n (by decide)) (upd_s _ _ _))))
                                  refine g_getf (kf := 20) (v := .int ((lkN (A 0) (U a) (U c) (nI s) 12).2.2)) hM.1 (mfs_get (by decide) g9) rfl in_X1 (by decide) q1681 rfl 112 rfl dX1_lookAll_109 ?_
                                  refine g_iconst (v := 1) (by decide) 113 rfl dX1_lookAll_112 ?_
                                  refine g_icmp_le 120 116 rfl (by decide) dX1_lookAll_113 (fun c113 => ?_) (fun c113 => ?_)
                                  · refine g_iconst (v := 0) (by decide) 121 rfl dX1_lookAll_120 ?_
                                    exact j121 ((0 : Int32)) (by first | (rw [decide_eq_true c113]; rfl) | (rw [decide_eq_false c113]; rfl))
                                  · refine g_iconst (v := 1) (by decide) 117 rfl dX1_lookAll_116 ?_
                                    refine g_goto 121 (by decide) dX1_lookAll_117 ?_
                                    exact j121 ((1 : Int32)) (by first | (rw [decide_eq_true c113]; rfl) | (rw [decide_eq_false c113]; rfl))
                          have hM : MW D h ad σ0 (upd (upd (upd (upd F 17 g17) 18 g18) 19 g19) 20 g20) (uA (uA (uA A 21 ((la3 (A 0) (la2 (A 0) (la1 (A 0) (zr (A 21) 12, zr (A 22) 12, zr (A 23) 3) a) a c) a c 0).1)) 22 ((la3 (A 0) (la2 (A 0) (la1 (A 0) (zr (A 21) 12, zr (A 22) 12, zr (A 23) 3) a) a c) a c 0).2.1)) 23 ((la3 (A 0) (la2 (A 0) (la1 (A 0) (zr (A 21) 12, zr (A 22) 12, zr (A 23) 3) a) a c) a c 0).2.2)) σ := by
                            have e2 : uA (uA (uA A 21 ((la3 (A 0) (la2 (A 0) (la1 (A 0) (zr (A 21) 12, zr (A 22) 12, zr (A 23) 3) a) a c) a c 0).1)) 22 ((la3 (A 0) (la2 (A 0) (la1 (A 0) (zr (A 21) 12, zr (A 22) 12, zr (A 23) 3) a) a c) a c 0).2.1)) 23 ((la3 (A 0) (la2 (A 0) (la1 (A 0) (zr (A 21) 12, zr (A 22) 12, zr (A 23) 3) a) a c) a c 0).2.2) = uA (uA (uA A 21 ((la2 (A 0) (la1 (A 0) (zr (A 21) 12, zr (A 22) 12, zr (A 23) 3) a) a c).1)) 22 ((la2 (A 0) (la1 (A 0) (zr (A 21) 12, zr (A 22) 12, zr (A 23) 3) a) a c).2.1)) 23 ((la2 (A 0) (la1 (A 0) (zr (A 21) 12, zr (A 22) 12, zr (A 23) 3) a) a c).2.2) := by rw [la3]
                            rw [e2]; exact hM
                          exact lp68 (2 + 1) 0 g17 g18 g19 g20 σ (by omega) (by omega)  hM
                    have hM : MW D h ad σ0 (upd (upd (upd (upd F 17 f17) 18 f18) 19 f19) 20 f20) (uA (uA (uA A 21 ((la2 (A 0) (la1 (A 0) (zr (A 21) 12, zr (A 22) 12, zr (A 23) 3) a) a 0).1)) 22 ((la2 (A 0) (la1 (A 0) (zr (A 21) 12, zr (A 22) 12, zr (A 23) 3) a) a 0).2.1)) 23 ((la2 (A 0) (la1 (A 0) (zr (A 21) 12, zr (A 22) 12, zr (A 23) 3) a) a 0).2.2)) σ := by
                      have e2 : uA (uA (uA A 21 ((la2 (A 0) (la1 (A 0) (zr (A 21) 12, zr (A 22) 12, zr (A 23) 3) a) a 0).1)) 22 ((la2 (A 0) (la1 (A 0) (zr (A 21) 12, zr (A 22) 12, zr (A 23) 3) a) a 0).2.1)) 23 ((la2 (A 0) (la1 (A 0) (zr (A 21) 12, zr (A 22) 12, zr (A 23) 3) a) a 0).2.2) = uA (uA (uA A 21 ((la1 (A 0) (zr (A 21) 12, zr (A 22) 12, zr (A 23) 3) a).1)) 22 ((la1 (A 0) (zr (A 21) 12, zr (A 22) 12, zr (A 23) 3) a).2.1)) 23 ((la1 (A 0) (zr (A 21) 12, zr (A 22) 12, zr (A 23) 3) a).2.2) := by rw [la2]
                      rw [e2]; exact hM
                    exact lp60 (64 + 1) 0 f17 f18 f19 f20 σ (by omega) (by omega)  hM
              have hM : MW D h ad σ0 (upd (upd (upd (upd F 17 ((F 17))) 18 ((F 18))) 19 ((F 19))) 20 ((F 20))) (uA (uA (uA A 21 ((la1 (A 0) (zr (A 21) 12, zr (A 22) 12, zr (A 23) 3) 0).1)) 22 ((la1 (A 0) (zr (A 21) 12, zr (A 22) 12, zr (A 23) 3) 0).2.1)) 23 ((la1 (A 0) (zr (A 21) 12, zr (A 22) 12, zr (A 23) 3) 0).2.2)) σ := by
                have e1 : upd (upd (upd (upd F 17 ((F 17))) 18 ((F 18))) 19 ((F 19))) 20 ((F 20)) = F := by funext x9; by_cases h9_17 : x9 = 17; (subst h9_17; simp [upd_ap]); by_cases h9_18 : x9 = 18; (subst h9_18; simp [upd_ap]); by_cases h9_19 : x9 = 19; (subst h9_19; simp [upd_ap]); by_cases h9_20 : x9 = 20; (subst h9_20; simp [upd_ap]); simp [upd_ap, h9_17, h9_18, h9_19, h9_20]
                have e2 : uA (uA (uA A 21 ((la1 (A 0) (zr (A 21) 12, zr (A 22) 12, zr (A 23) 3) 0).1)) 22 ((la1 (A 0) (zr (A 21) 12, zr (A 22) 12, zr (A 23) 3) 0).2.1)) 23 ((la1 (A 0) (zr (A 21) 12, zr (A 22) 12, zr (A 23) 3) 0).2.2) = uA (uA (uA A 21 (zr (A 21) 12)) 22 (zr (A 22) 12)) 23 (zr (A 23) 3) := by rw [la1]
                rw [e1, e2]; exact hM
              exact lp51 (64 + 1) 0 (F 17) (F 18) (F 19) (F 20) σ (by omega) (by omega)  hM
            · refine g_aload_n rfl ld_0 36 rfl dX1_lookAll_35 ?_
              refine g_getf (kf := 23) (v := .ref (ad 23)) hM.1 rfl rfl in_X1 (by decide) q1684 rfl 39 rfl dX1_lookAll_36 ?_
              refine g_iload_n rfl ld_1 40 rfl dX1_lookAll_39 ?_
              refine g_iconst (v := 0) (by decide) 41 rfl dX1_lookAll_40 ?_
              refine gm_astU (j := k) 23 (by decide) (by decide) hM rfl (by simp only [msz]; omega) 42 rfl dX1_lookAll_41 (fun σ hM => ?_)
              refine g_iinc (v := nI (k + 1)) ld_1 (nI_1 _) sa_1 45 rfl dX1_lookAll_42 ?_
              refine g_goto 30 (by decide) dX1_lookAll_45 ?_
              have hM : MW D h ad σ0 F (uA (uA (uA A 21 (zr (A 21) 12)) 22 (zr (A 22) 12)) 23 (zr (A 23) ((k + 1)))) σ := by
                have e2 : uA (uA (uA A 21 (zr (A 21) 12)) 22 (zr (A 22) 12)) 23 (zr (A 23) ((k + 1))) = uA (uA (uA A 21 (zr (A 21) 12)) 22 (zr (A 22) 12)) 23 (upd (zr (A 23) k) k ((0 : Int32))) := by rw [zr_s (A 23) k]
                rw [e2]; exact hM
              exact ih30 (k + 1) σ (by omega) (by omega)  hM
        have hM : MW D h ad σ0 F (uA (uA (uA A 21 (zr (A 21) 12)) 22 (zr (A 22) 12)) 23 (zr (A 23) 0)) σ := by
          have e2 : uA (uA (uA A 21 (zr (A 21) 12)) 22 (zr (A 22) 12)) 23 (zr (A 23) 0) = uA (uA A 21 (zr (A 21) 12)) 22 (zr (A 22) 12) := by rw [zr_0]; funext x9; by_cases h9_21 : x9 = 21; (subst h9_21; simp [uA_ap]); by_cases h9_22 : x9 = 22; (subst h9_22; simp [uA_ap]); by_cases h9_23 : x9 = 23; (subst h9_23; simp [uA_ap]); simp [uA_ap, h9_21, h9_22, h9_23]
          rw [e2]; exact hM
        exact lp30 (3 + 1) 0 σ (by omega) (by omega)  hM
      · refine g_aload_n rfl ld_0 9 rfl dX1_lookAll_8 ?_
        refine g_getf (kf := 21) (v := .ref (ad 21)) hM.1 rfl rfl in_X1 (by decide) q1682 rfl 12 rfl dX1_lookAll_9 ?_
        refine g_iload_n rfl ld_1 13 rfl dX1_lookAll_12 ?_
        refine g_iconst (v := 0) (by decide) 14 rfl dX1_lookAll_13 ?_
        have hM : MW D h ad σ0 F (uA (uA A 22 (zr (A 22) i)) 21 (zr (A 21) i)) σ := by
          have e9 : uA (uA A 22 (zr (A 22) i)) 21 (zr (A 21) i) = uA (uA A 21 (zr (A 21) i)) 22 (zr (A 22) i) := by funext x9; by_cases h9 : x9 = 21 <;> simp [uA_ap, h9]
          rw [e9]; exact hM
        refine gm_astU (j := i) 21 (by decide) (by decide) hM rfl (by simp only [msz]; omega) 15 rfl dX1_lookAll_14 (fun σ hM => ?_)
        refine g_aload_n rfl ld_0 16 rfl dX1_lookAll_15 ?_
        refine g_getf (kf := 22) (v := .ref (ad 22)) hM.1 rfl rfl in_X1 (by decide) q1683 rfl 19 rfl dX1_lookAll_16 ?_
        refine g_iload_n rfl ld_1 20 rfl dX1_lookAll_19 ?_
        refine g_iconst (v := 0) (by decide) 21 rfl dX1_lookAll_20 ?_
        have hM : MW D h ad σ0 F (uA (uA A 21 (upd (zr (A 21) i) i ((0 : Int32)))) 22 (zr (A 22) i)) σ := by
          have e9 : uA (uA A 21 (upd (zr (A 21) i) i ((0 : Int32)))) 22 (zr (A 22) i) = uA (uA A 22 (zr (A 22) i)) 21 (upd (zr (A 21) i) i ((0 : Int32))) := by funext x9; by_cases h9 : x9 = 22 <;> simp [uA_ap, h9]
          rw [e9]; exact hM
        refine gm_astU (j := i) 22 (by decide) (by decide) hM rfl (by simp only [msz]; omega) 22 rfl dX1_lookAll_21 (fun σ hM => ?_)
        refine g_iinc (v := nI (i + 1)) ld_1 (nI_1 _) sa_1 25 rfl dX1_lookAll_22 ?_
        refine g_goto 2 (by decide) dX1_lookAll_25 ?_
        have hM : MW D h ad σ0 F (uA (uA A 21 (zr (A 21) ((i + 1)))) 22 (zr (A 22) ((i + 1)))) σ := by
          have e2 : uA (uA A 21 (zr (A 21) ((i + 1)))) 22 (zr (A 22) ((i + 1))) = uA (uA A 21 (upd (zr (A 21) i) i ((0 : Int32)))) 22 (upd (zr (A 22) i) i ((0 : Int32))) := by rw [zr_s (A 21) i, zr_s (A 22) i]
          rw [e2]; exact hM
        exact ih2 (i + 1) σ (by omega) (by omega)  hM
  have hM : MW D h ad σ0 F (uA (uA A 21 (zr (A 21) 0)) 22 (zr (A 22) 0)) σ := by
    have e2 : uA (uA A 21 (zr (A 21) 0)) 22 (zr (A 22) 0) = A := by rw [zr_0, zr_0, uA_self]; exact uA_self A 22
    rw [e2]; exact hM
  exact lp2 (12 + 1) 0 σ (by omega) (by omega)  hM
theorem v_X1_lookAll (l : Launch) (D : DD) (b : Nat) {h : Nat} {ad : Nat → Nat} {σ0 : Hp} {F : Nat → Int32} {A : Nat → Nat → Int32} {σ : Hp} (hM : MW D h ad σ0 F A σ) {w0 : Nat → Int32} (hw0 : A 0 = w0) : CM l yX1_lookAll cX1_lookAll 5 none rX1_lookAll D b [.ref h] σ (PV (fun σ' => ∃ (f17 f18 f19 f20 : Int32) (st : SA), eqS st (LAc (w0)) ∧ MW D h ad σ0 (upd (upd (upd (upd F 17 f17) 18 f18) 19 f19) 20 f20) (uA (uA (uA A 21 st.1) 22 st.2.1) 23 st.2.2) σ')) := by
  subst hw0
  exact c_X1_lookAll l D b hM 
