/-! THE REFERENCE, part 10: draws -/
set_option maxRecDepth 100000
abbrev DS : Type := (Nat → Int32) × Nat × (Nat → Bool) × (Nat → Nat) × Nat
def iniR (w P : Nat → Int32) (d : Nat → Bool) : Nat → (Nat → Int32) × Nat × (Nat → Bool)
  | 0 => (P, 0, d)
  | b + 1 => if isBx w (nI b) = true then
      (upd (cpP (iniR w P d b).1 (fun y => w (7 * b + y)) (7 * (iniR w P d b).2.1) 6) (7 * (iniR w P d b).2.1 + 6) (nI b), (iniR w P d b).2.1 + 1, updB (iniR w P d b).2.2 (iniR w P d b).2.1 false)
    else iniR w P d b
theorem iniR_le (w P : Nat → Int32) (d : Nat → Bool) : ∀ b, (iniR w P d b).2.1 ≤ b
  | 0 => Nat.le_refl 0
  | b + 1 => by
    have := iniR_le w P d b
    rw [iniR]
    split
    · show _ + 1 ≤ _; omega
    · omega
theorem cn_congr {p q : Nat → Bool} : ∀ {n : Nat}, (∀ k, k < n → p k = q k) → cn p n = cn q n
  | 0, _ => rfl
  | n + 1, h => by rw [cn, cn, cn_congr (fun k hk => h k (by omega)), h n (by omega)]
theorem cn_new (d : Nat → Bool) (n : Nat) : cn (updB d n false) (n + 1) = cn d n := by
  rw [cn, cn_congr (q := d) (fun k hk => by simp only [updB]; rw [if_neg (by omega)])]
  simp [updB]
theorem cn_put {d : Nat → Bool} {k : Nat} (hd : d k = false) : ∀ {n : Nat}, k < n → cn (updB d k true) n = cn d n + 1
  | 0, h => absurd h (by omega)
  | n + 1, h => by
    rw [cn, cn]
    by_cases hk : k = n
    · subst hk
      rw [cn_congr (q := d) (fun j hj => by simp only [updB]; rw [if_neg (by omega)])]
      simp [updB, hd]
    · rw [cn_put hd (by omega)]
      have e : updB d k true n = d n := by simp only [updB]; rw [if_neg (fun e => hk e.symm)]
      rw [e]; omega
theorem iniR_cn (w P : Nat → Int32) (d : Nat → Bool) : ∀ b, cn (iniR w P d b).2.2 (iniR w P d b).2.1 = 0
  | 0 => rfl
  | b + 1 => by
    have := iniR_cn w P d b
    rw [iniR]
    split
    · show cn (updB _ _ false) (_ + 1) = 0
      rw [cn_new]; exact this
    · exact this
theorem cn_lt {d : Nat → Bool} : ∀ {n : Nat}, cn d n < n → ∃ k, k < n ∧ d k = false
  | 0, h => absurd h (by omega)
  | n + 1, h => by
    cases hd : d n with
    | false => exact ⟨n, by omega, hd⟩
    | true =>
      rw [cn, hd] at h
      simp only [if_true] at h
      obtain ⟨k, h1, h2⟩ := cn_lt (d := d) (n := n) (by omega)
      exact ⟨k, by omega, h2⟩
theorem ffN_ex {p : Nat → Bool} {n k : Nat} (hk : k < n) (hp : p k = true) : ffN p n 0 < n := by
  obtain ⟨-, b, -⟩ := ffN_spec (p := p) (n := n) n 0 (by omega) (by omega)
  rcases Nat.lt_or_ge (ffN p n 0) n with h | h
  · exact h
  · have := b k (by omega) (by omega)
    rw [hp] at this; cases this
theorem wk0_lt {P : Nat → Int32} {d : Nat → Bool} {pm : Nat} (h : cn d pm < pm) : wkN P d pm 0 < pm := by
  obtain ⟨k, h1, h2⟩ := cn_lt h
  exact ffN_ex h1 (by simp [h2])
theorem allB_of {P : Nat → Int32} {d : Nat → Bool} {pm : Nat} (h : nxN P d pm = pm) : allB P d pm := by
  intro j hj hd
  obtain ⟨-, b, -⟩ := ffN_spec (p := fun k => !d k && decide (lbN P d pm k = pm)) (n := pm) pm 0 (by omega) (by omega)
  have h1 := b j (by omega) (by unfold nxN at h; omega)
  simp only [hd, Bool.not_false, Bool.true_and, decide_eq_false_iff_not] at h1
  have h2 := lbN_le P d pm j
  omega
theorem nxN_le (P : Nat → Int32) (d : Nat → Bool) (pm : Nat) : nxN P d pm ≤ pm := ffN_le _ _ _ (Nat.zero_le _)
theorem nxN_und {P : Nat → Int32} {d : Nat → Bool} {pm : Nat} (h : nxN P d pm < pm) : d (nxN P d pm) = false := by
  have := (ffN_spec (p := fun k => !d k && decide (lbN P d pm k = pm)) (n := pm) pm 0 (by omega) (by omega)).1 h
  simp only [Bool.and_eq_true, Bool.not_eq_true'] at this
  exact this.1
def dwR : Nat → DS → Option DS
  | 0, _ => none
  | f + 1, s => if s.2.2.2.2 < s.2.1 then
      (if nxN s.1 s.2.2.1 s.2.1 < s.2.1 then dwR f (s.1, s.2.1, updB s.2.2.1 (nxN s.1 s.2.2.1 s.2.1) true, updN s.2.2.2.1 s.2.2.2.2 (nxN s.1 s.2.2.1 s.2.1), s.2.2.2.2 + 1)
       else if s.2.1 = 40 ∨ ¬ cAx s.1 s.2.2.1 s.2.1 < 3 then none
       else dwR f (cutP s.1 s.2.1 (cPc s.1 s.2.2.1 s.2.1) (cAx s.1 s.2.2.1 s.2.1) (nI (cAt s.1 s.2.2.1 s.2.1)), s.2.1 + 1, updB s.2.2.1 s.2.1 false, s.2.2.2.1, s.2.2.2.2))
    else some s
def ds0 (w P : Nat → Int32) (d : Nat → Bool) : DS := ((iniR w P d 12).1, (iniR w P d 12).2.1, (iniR w P d 12).2.2, fun _ => 0, 0)
theorem emb_push (n : Nat) (m : Nat → Nat) (v : Nat) (s : Nat → Int32) : emb (n + 1) (updN m n v) s = upd (emb n m s) n (nI v) := by
  funext x
  simp only [emb, upd, updN]
  by_cases h : x = n
  · subst h; simp
  · by_cases h2 : x < n
    · simp [h, h2, show x < n + 1 by omega]
    · simp [h, h2, show ¬ x < n + 1 by omega]
theorem dw_draw {f dm pm : Nat} {P : Nat → Int32} {d : Nat → Bool} {dl : Nat → Nat} (h1 : dm < pm) (h2 : nxN P d pm < pm) : dwR (f + 1) (P, pm, d, dl, dm) = dwR f (P, pm, updB d (nxN P d pm) true, updN dl dm (nxN P d pm), dm + 1) := by
  rw [dwR]; dsimp only; rw [if_pos h1, if_pos h2]
theorem dw_cut {f dm pm : Nat} {P : Nat → Int32} {d : Nat → Bool} {dl : Nat → Nat} (h1 : dm < pm) (h2 : nxN P d pm = pm) (h3 : pm < 40) (h4 : cAx P d pm < 3) : dwR (f + 1) (P, pm, d, dl, dm) = dwR f (cutP P pm (cPc P d pm) (cAx P d pm) (nI (cAt P d pm)), pm + 1, updB d pm false, dl, dm) := by
  rw [dwR]; dsimp only; rw [if_pos h1, if_neg (by omega), if_neg (by omega)]
theorem dw_fail {f dm pm : Nat} {P : Nat → Int32} {d : Nat → Bool} {dl : Nat → Nat} (h1 : dm < pm) (h2 : nxN P d pm = pm) (h3 : pm = 40 ∨ ¬ cAx P d pm < 3) : dwR (f + 1) (P, pm, d, dl, dm) = none := by
  rw [dwR]; dsimp only; rw [if_pos h1, if_neg (by omega), if_pos h3]
theorem dw_done {f dm pm : Nat} {P : Nat → Int32} {d : Nat → Bool} {dl : Nat → Nat} (h1 : pm ≤ dm) : dwR (f + 1) (P, pm, d, dl, dm) = some (P, pm, d, dl, dm) := by
  rw [dwR]; dsimp only; rw [if_neg (by omega)]
def rX1_draws : Room := { frames := 8, cells := 0, slots := 0, locals := 177 }
theorem k_X1_draws : CV yX1_draws cX1_draws 3 (some .boolean) 0 := ⟨q1882, qs58, q81, q1883, by decide +kernel, by decide +kernel, by decide +kernel⟩
set_option maxHeartbeats 4000000 in
theorem c_X1_draws (l : Launch) (D : DD) (b : Nat) {h : Nat} {ad : Nat → Nat} {σ0 : Hp} {F : Nat → Int32} {A : Nat → Nat → Int32} {σ : Hp} (hM : MW D h ad σ0 F A σ) (d : Nat → Bool) (hd : A 14 = fun x => bI (d x)) : CM l yX1_draws cX1_draws 3 (some .boolean) rX1_draws D b [.ref h] σ (PI (fun r σ' => ∃ (P : Nat → Int32) (pm : Nat) (d' : Nat → Bool) (dl : Nat → Nat) (dm : Nat) (s12 s15 : Nat → Int32) (f16 : Int32), pm ≤ 40 ∧ dm ≤ pm ∧ (∀ k, k < dm → dl k < pm) ∧ MW D h ad σ0 (upd (upd (upd F 11 (nI pm)) 13 (nI dm)) 16 f16) (uA (uA (uA (uA A 10 P) 14 (fun x => bI (d' x))) 12 (emb dm dl s12)) 15 s15) σ' ∧ ((r = 1 ∧ dwR 81 (ds0 (A 0) (A 10) d) = some (P, pm, d', dl, dm)) ∨ (r = 0 ∧ dwR 81 (ds0 (A 0) (A 10) d) = none)))) := by
  refine CM_of [some (.ref h), none, none] RX1 (by decide) rfl (cat_all rfl) (Nat.le_of_ble_eq_true rfl) rfl ?_
  intro z hz hR hnm
  refine g_aload_n rfl ld_0 1 rfl dX1_draws_0 ?_
  refine g_iconst (v := 0) (by decide) 2 rfl dX1_draws_1 ?_
  refine gm_put (v := (0 : Int32)) 11 (by decide) hM q1672 5 rfl dX1_draws_2 (fun σ hM => ?_)
  refine g_aload_n rfl ld_0 6 rfl dX1_draws_5 ?_
  refine g_iconst (v := 0) (by decide) 7 rfl dX1_draws_6 ?_
  refine gm_put (v := (0 : Int32)) 13 (by decide) hM q1674 10 rfl dX1_draws_7 (fun σ hM => ?_)
  refine g_iconst (v := 0) (by decide) 11 rfl dX1_draws_10 ?_
  refine g_istore_n rfl sa_1 12 rfl dX1_draws_11 ?_
  have lp12 : ∀ (fu i : Nat) (σ : Hp), i ≤ 12 → 12 + 1 ≤ i + fu → MW D h ad σ0 (upd (upd F 11 (nI ((iniR (A 0) (A 10) d i).2.1))) 13 ((0 : Int32))) (uA (uA A 10 ((iniR (A 0) (A 10) d i).1)) 14 (fun x => bI ((iniR (A 0) (A 10) d i).2.2 x))) σ → G z cX1_draws RX1 3 rX1_draws D b σ 0 0 12 [some (.ref h), some (.int (nI i)), none] [] := by
    intro fu
    induction fu with
    | zero => intros; omega
    | succ fu ih12 =>
      intro i σ hi hf  hM
      refine g_iload_n rfl ld_1 13 rfl dX1_draws_12 ?_
      refine g_bipush (v := 12) (by decide) 15 rfl dX1_draws_13 ?_
      refine g_icmp_geN (a := i) (c := 12) rfl (show (12 : Int32) = nI 12 from rfl) (by omega) (by omega) 102 18 rfl (by decide) dX1_draws_15 (fun c15 => ?_) (fun c15 => ?_)
      · obtain rfl : i = 12 := by omega
        have hini := iniR_le (A 0) (A 10) d 12
        refine G_lv dr_1 ?_
        have lp102 : ∀ (fu i : Nat) (P1 : Nat → Int32) (pm1 : Nat) (d1 : Nat → Bool) (dl : Nat → Nat) (dm : Nat) (s12 s15 : Nat → Int32) (f16 : Int32) (σ : Hp), i ≤ 80 → 80 + 1 ≤ i + fu → (dwR (81 - i) (P1, pm1, d1, dl, dm) = dwR 81 (ds0 (A 0) (A 10) d)) → (pm1 ≤ 40) → (cn d1 pm1 = dm) → (dm + pm1 = i + (iniR (A 0) (A 10) d 12).2.1) → (∀ k, k < dm → dl k < pm1) → MW D h ad σ0 (upd (upd (upd F 11 (nI pm1)) 13 (nI dm)) 16 f16) (uA (uA (uA (uA A 10 P1) 14 (fun x => bI (d1 x))) 12 (emb dm dl s12)) 15 s15) σ → G z cX1_draws RX1 3 rX1_draws D b σ 0 0 102 [some (.ref h), none, none] [] := by
          intro fu
          induction fu with
          | zero => intros; omega
          | succ fu ih102 =>
            intro i P1 pm1 d1 dl dm s12 s15 f16 σ hi hf hdw hsz hcn hsum hdl hM
            refine g_aload_n rfl ld_0 103 rfl dX1_draws_102 ?_
            have hdmle : dm ≤ pm1 := hcn ▸ cn_le d1 pm1
            refine g_getf (kf := 13) (v := .int (nI dm)) hM.1 rfl rfl in_X1 (by decide) q1674 rfl 106 rfl dX1_draws_103 ?_
            refine g_aload_n rfl ld_0 107 rfl dX1_draws_106 ?_
            refine g_getf (kf := 11) (v := .int (nI pm1)) hM.1 rfl rfl in_X1 (by decide) q1672 rfl 110 rfl dX1_draws_107 ?_
            refine g_icmp_geN (a := dm) (c := pm1) rfl rfl (by omega) (by omega) 175 113 rfl (by decide) dX1_draws_110 (fun c110 => ?_) (fun c110 => ?_)
            · refine g_iconst (v := 1) (by decide) 176 rfl dX1_draws_175 ?_
              have e8 : dwR 81 (ds0 (A 0) (A 10) d) = some (P1, pm1, d1, dl, dm) := by rw [← hdw, show 81 - i = (80 - i) + 1 by omega]; exact dw_done (by omega)
              exact g_iret hR nz_1 (Nat.le_of_ble_eq_true rfl) (Nat.le_of_ble_eq_true rfl) ⟨_, rfl, P1, pm1, d1, dl, dm, s12, s15, f16, hsz, hdmle, hdl, hM, Or.inl ⟨rfl, e8⟩⟩ dX1_draws_176
            · refine g_aload_n rfl ld_0 114 rfl dX1_draws_113 ?_
              refine g_callV (As := []) (rest := []) (ci := 1) (v_X1_nextDrawn z.l D b hM (w10 := P1) rfl pm1 rfl (by omega) d1 rfl ) k_X1_nextDrawn q1884 hM.1 rfl rfl rfl rfl (Nat.le_of_ble_eq_true rfl) ⟨Nat.le_of_ble_eq_true rfl, Nat.le_of_ble_eq_true rfl⟩ 0 0 (Nat.le_of_ble_eq_true rfl) (Nat.le_of_ble_eq_true rfl) (Nat.le_of_ble_eq_true rfl) (Nat.le_of_ble_eq_true rfl) 117 rfl dX1_draws_114 (fun v σ1 hq => ?_)
              obtain ⟨rfl, rfl⟩ := hq
              refine g_istore_n rfl sa_1 118 rfl dX1_draws_117 ?_
              have hnle := nxN_le P1 d1 pm1
              have hoe := oN_eq hnle (show pm1 < 2 ^ 31 by omega)
              refine g_iload_n rfl ld_1 119 rfl dX1_draws_118 ?_
              refine g_bipush (v := -106) (by decide) 121 rfl dX1_draws_119 ?_
              refine g_icmp_eq 154 124 rfl (by decide) dX1_draws_121 (fun c121 => ?_) (fun c121 => ?_)
              · have hnx : nxN P1 d1 pm1 = pm1 := hoe.1 c121
                refine G_lv dr_1 ?_
                refine g_aload_n rfl ld_0 155 rfl dX1_draws_154 ?_
                refine g_getf (kf := 11) (v := .int (nI pm1)) hM.1 rfl rfl in_X1 (by decide) q1672 rfl 158 rfl dX1_draws_155 ?_
                refine g_bipush (v := 40) (by decide) 160 rfl dX1_draws_158 ?_
                refine g_icmp_eqN (a := pm1) (c := 40) rfl (show (40 : Int32) = nI 40 from rfl) (by omega) (by omega) 170 163 rfl (by decide) dX1_draws_160 (fun c160 => ?_) (fun c160 => ?_)
                · refine g_iconst (v := 0) (by decide) 171 rfl dX1_draws_170 ?_
                  have e8 : dwR 81 (ds0 (A 0) (A 10) d) = none := by rw [← hdw, show 81 - i = (80 - i) + 1 by omega]; exact dw_fail (by omega) hnx (by omega)
                  exact g_iret hR nz_0 (Nat.le_of_ble_eq_true rfl) (Nat.le_of_ble_eq_true rfl) ⟨_, rfl, P1, pm1, d1, dl, dm, s12, s15, f16, hsz, hdmle, hdl, hM, Or.inr ⟨rfl, e8⟩⟩ dX1_draws_171
                · refine g_aload_n rfl ld_0 164 rfl dX1_draws_163 ?_
                  refine g_callV (As := []) (rest := []) (ci := 1) (v_X1_cutsLoop z.l D b hM (w10 := P1) rfl pm1 rfl (by omega) (by omega) d1 rfl (wk0_lt (by omega)) (allB_of hnx)) k_X1_cutsLoop q1896 hM.1 rfl rfl rfl rfl (Nat.le_of_ble_eq_true rfl) ⟨Nat.le_of_ble_eq_true rfl, Nat.le_of_ble_eq_true rfl⟩ 0 0 (Nat.le_of_ble_eq_true rfl) (Nat.le_of_ble_eq_true rfl) (Nat.le_of_ble_eq_true rfl) (Nat.le_of_ble_eq_true rfl) 167 rfl dX1_draws_164 (fun v σ1 hq => ?_)
                  obtain ⟨_, rfl, s16, hq⟩ := hq
                  rcases hq with ⟨hax, rfl, hM⟩ | ⟨hax, rfl, hM⟩
                  · revert σ1
                    intro σ hM
                    have hM : MW D h ad σ0 (upd (upd (upd (upd (upd F 11 (nI pm1)) 13 (nI dm)) 16 f16) 16 (nI (lnN P1 d1 pm1))) 11 (nI (pm1 + 1))) (uA (uA (uA (uA A 12 (emb dm dl s12)) 15 (emb (lnN P1 d1 pm1) (lpN P1 d1 pm1) s16)) 10 (cutP P1 pm1 (cPc P1 d1 pm1) (cAx P1 d1 pm1) (nI (cAt P1 d1 pm1)))) 14 (fun x => bI (updB d1 pm1 false x))) σ := by
                      have e9 : uA (uA (uA (uA A 12 (emb dm dl s12)) 15 (emb (lnN P1 d1 pm1) (lpN P1 d1 pm1) s16)) 10 (cutP P1 pm1 (cPc P1 d1 pm1) (cAx P1 d1 pm1) (nI (cAt P1 d1 pm1)))) 14 (fun x => bI (updB d1 pm1 false x)) = uA (uA (uA (uA (uA (uA (uA A 10 P1) 14 (fun x => bI (d1 x))) 12 (emb dm dl s12)) 15 s15) 15 (emb (lnN P1 d1 pm1) (lpN P1 d1 pm1) s16)) 10 (cutP P1 pm1 (cPc P1 d1 pm1) (cAx P1 d1 pm1) (nI (cAt P1 d1 pm1)))) 14 (fun x => bI (updB d1 pm1 false x)) := by funext x9; simp only [uA_ap]; repeat (first | rfl | split)
                      rw [e9]; exact hM
                    have hM : MW D h ad σ0 (upd (upd (upd F 13 (nI dm)) 16 (nI (lnN P1 d1 pm1))) 11 (nI (pm1 + 1))) (uA (uA (uA (uA A 12 (emb dm dl s12)) 15 (emb (lnN P1 d1 pm1) (lpN P1 d1 pm1) s16)) 10 (cutP P1 pm1 (cPc P1 d1 pm1) (cAx P1 d1 pm1) (nI (cAt P1 d1 pm1)))) 14 (fun x => bI (updB d1 pm1 false x))) σ := by
                      have e9 : upd (upd (upd F 13 (nI dm)) 16 (nI (lnN P1 d1 pm1))) 11 (nI (pm1 + 1)) = upd (upd (upd (upd (upd F 11 (nI pm1)) 13 (nI dm)) 16 f16) 16 (nI (lnN P1 d1 pm1))) 11 (nI (pm1 + 1)) := by funext x9; simp only [upd_ap]; repeat (first | rfl | split)
                      rw [e9]; exact hM
                    refine g_if_ne 172 170 rfl (by decide) dX1_draws_167 (fun cz => ?_) (fun cz => absurd cz (by decide))
                    refine g_goto 102 (by decide) dX1_draws_172 ?_
                    have hM : MW D h ad σ0 (upd (upd (upd F 11 (nI (pm1 + 1))) 13 (nI dm)) 16 ((nI (lnN P1 d1 pm1)))) (uA (uA (uA (uA A 10 ((cutP P1 pm1 (cPc P1 d1 pm1) (cAx P1 d1 pm1) (nI (cAt P1 d1 pm1))))) 14 (fun x => bI ((updB d1 pm1 false) x))) 12 (emb dm dl s12)) 15 ((emb (lnN P1 d1 pm1) (lpN P1 d1 pm1) s16))) σ := by
                      have e1 : upd (upd (upd F 11 (nI (pm1 + 1))) 13 (nI dm)) 16 ((nI (lnN P1 d1 pm1))) = upd (upd (upd F 13 (nI dm)) 16 (nI (lnN P1 d1 pm1))) 11 (nI (pm1 + 1)) := by funext x9; by_cases h9 : x9 = 11 <;> by_cases h8 : x9 = 16 <;> simp [upd_ap, h9, h8]
                      have e2 : uA (uA (uA (uA A 10 ((cutP P1 pm1 (cPc P1 d1 pm1) (cAx P1 d1 pm1) (nI (cAt P1 d1 pm1))))) 14 (fun x => bI ((updB d1 pm1 false) x))) 12 (emb dm dl s12)) 15 ((emb (lnN P1 d1 pm1) (lpN P1 d1 pm1) s16)) = uA (uA (uA (uA A 12 (emb dm dl s12)) 15 (emb (lnN P1 d1 pm1) (lpN P1 d1 pm1) s16)) 10 (cutP P1 pm1 (cPc P1 d1 pm1) (cAx P1 d1 pm1) (nI (cAt P1 d1 pm1)))) 14 (fun x => bI (updB d1 pm1 false x)) := by funext x9; by_cases h9 : x9 = 15 <;> by_cases h8 : x9 = 12 <;> by_cases h7 : x9 = 14 <;> by_cases h6 : x9 = 10 <;> simp [uA_ap, h9, h8, h7, h6]
                      rw [e1, e2]; exact hM
                    exact ih102 (i + 1) (cutP P1 pm1 (cPc P1 d1 pm1) (cAx P1 d1 pm1) (nI (cAt P1 d1 pm1))) (pm1 + 1) (updB d1 pm1 false) dl dm s12 (emb (lnN P1 d1 pm1) (lpN P1 d1 pm1) s16) (nI (lnN P1 d1 pm1)) σ (by omega) (by omega) (by rw [← hdw, show 81 - i = (81 - (i + 1)) + 1 by omega]; exact (dw_cut (by omega) hnx (by omega) hax).symm) (by omega) (by rw [cn_new]; exact hcn) (by omega) (fun k hk => Nat.lt_succ_of_lt (hdl k hk)) hM
                  · revert σ1
                    intro σ hM
                    have hM : MW D h ad σ0 (upd (upd (upd (upd F 11 (nI pm1)) 13 (nI dm)) 16 f16) 16 (nI (lnN P1 d1 pm1))) (uA (uA (uA (uA A 10 P1) 14 (fun x => bI (d1 x))) 12 (emb dm dl s12)) 15 (emb (lnN P1 d1 pm1) (lpN P1 d1 pm1) s16)) σ := by
                      have e9 : uA (uA (uA (uA A 10 P1) 14 (fun x => bI (d1 x))) 12 (emb dm dl s12)) 15 (emb (lnN P1 d1 pm1) (lpN P1 d1 pm1) s16) = uA (uA (uA (uA (uA A 10 P1) 14 (fun x => bI (d1 x))) 12 (emb dm dl s12)) 15 s15) 15 (emb (lnN P1 d1 pm1) (lpN P1 d1 pm1) s16) := by funext x9; simp only [uA_ap]; repeat (first | rfl | split)
                      rw [e9]; exact hM
                    have hM : MW D h ad σ0 (upd (upd (upd F 11 (nI pm1)) 13 (nI dm)) 16 (nI (lnN P1 d1 pm1))) (uA (uA (uA (uA A 10 P1) 14 (fun x => bI (d1 x))) 12 (emb dm dl s12)) 15 (emb (lnN P1 d1 pm1) (lpN P1 d1 pm1) s16)) σ := by
                      have e9 : upd (upd (upd F 11 (nI pm1)) 13 (nI dm)) 16 (nI (lnN P1 d1 pm1)) = upd (upd (upd (upd F 11 (nI pm1)) 13 (nI dm)) 16 f16) 16 (nI (lnN P1 d1 pm1)) := by funext x9; simp only [upd_ap]; repeat (first | rfl | split)
                      rw [e9]; exact hM
                    refine g_if_ne 172 170 rfl (by decide) dX1_draws_167 (fun cz => absurd cz (by decide)) (fun cz => ?_)
                    refine g_iconst (v := 0) (by decide) 171 rfl dX1_draws_170 ?_
                    have e8 : dwR 81 (ds0 (A 0) (A 10) d) = none := by rw [← hdw, show 81 - i = (80 - i) + 1 by omega]; exact dw_fail (by omega) hnx (by omega)
                    have hM : MW D h ad σ0 (upd (upd (upd F 11 (nI pm1)) 13 (nI dm)) 16 (nI (lnN P1 d1 pm1))) (uA (uA (uA (uA A 10 P1) 14 (fun x => bI (d1 x))) 12 (emb dm dl s12)) 15 (emb (lnN P1 d1 pm1) (lpN P1 d1 pm1) s16)) σ := by
                      exact hM
                    exact g_iret hR nz_0 (Nat.le_of_ble_eq_true rfl) (Nat.le_of_ble_eq_true rfl) ⟨_, rfl, P1, pm1, d1, dl, dm, s12, _, _, hsz, hdmle, hdl, hM, Or.inr ⟨rfl, e8⟩⟩ dX1_draws_171
              · have hnx : nxN P1 d1 pm1 < pm1 := by rw [hoe] at c121; omega
                rw [oN_lt hnx]
                refine g_aload_n rfl ld_0 125 rfl dX1_draws_124 ?_
                refine g_getf (kf := 14) (v := .ref (ad 14)) hM.1 rfl rfl in_X1 (by decide) q1675 rfl 128 rfl dX1_draws_125 ?_
                refine g_iload_n rfl ld_1 129 rfl dX1_draws_128 ?_
                refine g_iconst (v := 1) (by decide) 130 rfl dX1_draws_129 ?_
                have hM : MW D h ad σ0 (upd (upd (upd F 11 (nI pm1)) 13 (nI dm)) 16 f16) (uA (uA (uA (uA A 10 P1) 12 (emb dm dl s12)) 15 s15) 14 (fun x => bI (d1 x))) σ := by
                  have e9 : uA (uA (uA (uA A 10 P1) 12 (emb dm dl s12)) 15 s15) 14 (fun x => bI (d1 x)) = uA (uA (uA (uA A 10 P1) 14 (fun x => bI (d1 x))) 12 (emb dm dl s12)) 15 s15 := by funext x9; by_cases h9 : x9 = 14 <;> simp [uA_ap, h9]
                  rw [e9]; exact hM
                refine gm_astZU (j := (nxN P1 d1 pm1)) hM rfl (by omega) nzv_1 131 rfl dX1_draws_130 (fun σ hM => ?_)
                refine g_aload_n rfl ld_0 132 rfl dX1_draws_131 ?_
                refine g_getf (kf := 12) (v := .ref (ad 12)) hM.1 rfl rfl in_X1 (by decide) q1673 rfl 135 rfl dX1_draws_132 ?_
                refine g_aload_n rfl ld_0 136 rfl dX1_draws_135 ?_
                refine g_getf (kf := 13) (v := .int (nI dm)) hM.1 rfl rfl in_X1 (by decide) q1674 rfl 139 rfl dX1_draws_136 ?_
                refine g_iload_n rfl ld_1 140 rfl dX1_draws_139 ?_
                have hM : MW D h ad σ0 (upd (upd (upd F 11 (nI pm1)) 13 (nI dm)) 16 f16) (uA (uA (uA (uA A 10 P1) 15 s15) 14 (upd (fun x => bI (d1 x)) ((nxN P1 d1 pm1)) ((1 : Int32)))) 12 (emb dm dl s12)) σ := by
                  have e9 : uA (uA (uA (uA A 10 P1) 15 s15) 14 (upd (fun x => bI (d1 x)) ((nxN P1 d1 pm1)) ((1 : Int32)))) 12 (emb dm dl s12) = uA (uA (uA (uA A 10 P1) 12 (emb dm dl s12)) 15 s15) 14 (upd (fun x => bI (d1 x)) ((nxN P1 d1 pm1)) ((1 : Int32))) := by funext x9; by_cases h9 : x9 = 12 <;> simp [uA_ap, h9]
                  rw [e9]; exact hM
                refine gm_astU (j := dm) 12 (by decide) (by decide) hM rfl (by simp only [msz]; omega) 141 rfl dX1_draws_140 (fun σ hM => ?_)
                refine g_aload_n rfl ld_0 142 rfl dX1_draws_141 ?_
                refine g_dup rfl 143 rfl dX1_draws_142 ?_
                refine g_getf (kf := 13) (v := .int (nI dm)) hM.1 rfl rfl in_X1 (by decide) q1674 rfl 146 rfl dX1_draws_143 ?_
                refine g_iconst (v := 1) (by decide) 147 rfl dX1_draws_146 ?_
                refine g_iaddN (a := dm) (c := 1) rfl (show (1 : Int32) = nI 1 from rfl) 148 rfl dX1_draws_147 ?_
                have hM : MW D h ad σ0 (upd (upd (upd F 11 (nI pm1)) 16 f16) 13 (nI dm)) (uA (uA (uA (uA A 10 P1) 15 s15) 14 (upd (fun x => bI (d1 x)) ((nxN P1 d1 pm1)) ((1 : Int32)))) 12 (upd (emb dm dl s12) dm (nI (nxN P1 d1 pm1)))) σ := by
                  have e9 : upd (upd (upd F 11 (nI pm1)) 16 f16) 13 (nI dm) = upd (upd (upd F 11 (nI pm1)) 13 (nI dm)) 16 f16 := by funext x9; by_cases h9 : x9 = 13 <;> simp [upd_ap, h9]
                  rw [e9]; exact hM
                refine gm_putU (v := nI (dm + 1)) 13 (by decide) hM q1674 151 rfl dX1_draws_148 (fun σ hM => ?_)
                refine g_goto 172 (by decide) dX1_draws_151 ?_
                refine g_goto 102 (by decide) dX1_draws_172 ?_
                refine G_lv dr_1 ?_
                have hM : MW D h ad σ0 (upd (upd (upd F 11 (nI pm1)) 13 (nI (dm + 1))) 16 f16) (uA (uA (uA (uA A 10 P1) 14 (fun x => bI ((updB d1 (nxN P1 d1 pm1) true) x))) 12 (emb (dm + 1) (updN dl dm (nxN P1 d1 pm1)) s12)) 15 s15) σ := by
                  have e1 : upd (upd (upd F 11 (nI pm1)) 13 (nI (dm + 1))) 16 f16 = upd (upd (upd F 11 (nI pm1)) 16 f16) 13 (nI (dm + 1)) := by funext x9; by_cases h9 : x9 = 13 <;> simp [upd_ap, h9]
                  have e2 : uA (uA (uA (uA A 10 P1) 14 (fun x => bI ((updB d1 (nxN P1 d1 pm1) true) x))) 12 (emb (dm + 1) (updN dl dm (nxN P1 d1 pm1)) s12)) 15 s15 = uA (uA (uA (uA A 10 P1) 15 s15) 14 (upd (fun x => bI (d1 x)) ((nxN P1 d1 pm1)) ((1 : Int32)))) 12 (upd (emb dm dl s12) dm (nI (nxN P1 d1 pm1))) := by rw [emb_push, ← updB_upd]; funext x9; by_cases h9 : x9 = 15 <;> by_cases h8 : x9 = 12 <;> by_cases h7 : x9 = 14 <;> simp [uA_ap, h9, h8, h7, bI]
                  rw [e1, e2]; exact hM
                exact ih102 (i + 1) P1 pm1 (updB d1 (nxN P1 d1 pm1) true) (updN dl dm (nxN P1 d1 pm1)) (dm + 1) s12 s15 f16 σ (by omega) (by omega) (by rw [← hdw, show 81 - i = (81 - (i + 1)) + 1 by omega]; exact (dw_draw (by omega) hnx).symm) (by omega) (by rw [cn_put (nxN_und hnx) hnx, hcn]) (by omega) (fun k hk => by simp only [updN]; split; exact hnx; exact hdl k (by omega)) hM
        have hM : MW D h ad σ0 (upd (upd (upd F 11 (nI (iniR (A 0) (A 10) d 12).2.1)) 13 (nI 0)) 16 ((F 16))) (uA (uA (uA (uA A 10 ((iniR (A 0) (A 10) d 12).1)) 14 (fun x => bI ((iniR (A 0) (A 10) d 12).2.2 x))) 12 (emb 0 (fun _ => 0) (A 12))) 15 ((A 15))) σ := by
          have e1 : upd (upd (upd F 11 (nI (iniR (A 0) (A 10) d 12).2.1)) 13 (nI 0)) 16 ((F 16)) = upd (upd F 11 (nI ((iniR (A 0) (A 10) d 12).2.1))) 13 ((0 : Int32)) := by funext x9; by_cases h9 : x9 = 16 <;> simp [upd_ap, h9]; try rfl
          have e2 : uA (uA (uA (uA A 10 ((iniR (A 0) (A 10) d 12).1)) 14 (fun x => bI ((iniR (A 0) (A 10) d 12).2.2 x))) 12 (emb 0 (fun _ => 0) (A 12))) 15 ((A 15)) = uA (uA A 10 ((iniR (A 0) (A 10) d 12).1)) 14 (fun x => bI ((iniR (A 0) (A 10) d 12).2.2 x)) := by rw [emb_0]; funext x9; by_cases h9 : x9 = 15 <;> by_cases h8 : x9 = 12 <;> simp [uA_ap, h9, h8]
          rw [e1, e2]; exact hM
        exact lp102 (80 + 1) 0 (iniR (A 0) (A 10) d 12).1 (iniR (A 0) (A 10) d 12).2.1 (iniR (A 0) (A 10) d 12).2.2 (fun _ => 0) 0 (A 12) (A 15) (F 16) σ (by omega) (by omega) (rfl) (by have := iniR_le (A 0) (A 10) d 12; omega) (iniR_cn _ _ _ _) (rfl) (fun k hk => absurd hk (by omega)) hM
      · have hpmi := iniR_le (A 0) (A 10) d i
        refine g_aload_n rfl ld_0 19 rfl dX1_draws_18 ?_
        refine g_iload_n rfl ld_1 20 rfl dX1_draws_19 ?_
        refine g_callV (As := [.int (nI i)]) (rest := []) (ci := 1) (v_X1_isBox z.l D b hM (w0 := A 0) rfl (nI i)) k_X1_isBox q1759 hM.1 rfl rfl rfl rfl (Nat.le_of_ble_eq_true rfl) ⟨Nat.le_of_ble_eq_true rfl, Nat.le_of_ble_eq_true rfl⟩ 0 0 (Nat.le_of_ble_eq_true rfl) (Nat.le_of_ble_eq_true rfl) (Nat.le_of_ble_eq_true rfl) (Nat.le_of_ble_eq_true rfl) 23 rfl dX1_draws_20 (fun v σ1 hq => ?_)
        obtain ⟨rfl, rfl⟩ := hq
        refine g_if_eqB 96 26 rfl (by decide) dX1_draws_23 (fun c23 => ?_) (fun c23 => ?_)
        · refine g_iinc (v := nI (i + 1)) ld_1 (nI_1 _) sa_1 99 rfl dX1_draws_96 ?_
          refine g_goto 12 (by decide) dX1_draws_99 ?_
          have hM : MW D h ad σ0 (upd (upd F 11 (nI ((iniR (A 0) (A 10) d ((i + 1))).2.1))) 13 ((0 : Int32))) (uA (uA A 10 ((iniR (A 0) (A 10) d ((i + 1))).1)) 14 (fun x => bI ((iniR (A 0) (A 10) d ((i + 1))).2.2 x))) σ := by
            have e1 : upd (upd F 11 (nI ((iniR (A 0) (A 10) d ((i + 1))).2.1))) 13 ((0 : Int32)) = upd (upd F 11 (nI ((iniR (A 0) (A 10) d i).2.1))) 13 ((0 : Int32)) := by rw [iniR, if_neg (by simp [c23])]
            have e2 : uA (uA A 10 ((iniR (A 0) (A 10) d ((i + 1))).1)) 14 (fun x => bI ((iniR (A 0) (A 10) d ((i + 1))).2.2 x)) = uA (uA A 10 ((iniR (A 0) (A 10) d i).1)) 14 (fun x => bI ((iniR (A 0) (A 10) d i).2.2 x)) := by rw [iniR, if_neg (by simp [c23])]
            rw [e1, e2]; exact hM
          exact ih12 (i + 1) σ (by omega) (by omega)  hM
        · refine g_iconst (v := 0) (by decide) 27 rfl dX1_draws_26 ?_
          refine g_istore_n rfl sa_2 28 rfl dX1_draws_27 ?_
          have lp28 : ∀ (fu k : Nat) (σ : Hp), k ≤ 6 → 6 + 1 ≤ k + fu → MW D h ad σ0 (upd (upd F 11 (nI ((iniR (A 0) (A 10) d i).2.1))) 13 ((0 : Int32))) (uA (uA A 14 (fun x => bI ((iniR (A 0) (A 10) d i).2.2 x))) 10 (cpP (iniR (A 0) (A 10) d i).1 (fun y => A 0 (7 * i + y)) (7 * (iniR (A 0) (A 10) d i).2.1) k)) σ → G z cX1_draws RX1 3 rX1_draws D b σ 0 0 28 [some (.ref h), some (.int (nI i)), some (.int (nI k))] [] := by
            intro fu
            induction fu with
            | zero => intros; omega
            | succ fu ih28 =>
              intro k σ hk hf  hM
              refine g_iload_n rfl ld_2 29 rfl dX1_draws_28 ?_
              refine g_bipush (v := 6) (by decide) 31 rfl dX1_draws_29 ?_
              refine g_icmp_geN (a := k) (c := 6) rfl (show (6 : Int32) = nI 6 from rfl) (by omega) (by omega) 60 34 rfl (by decide) dX1_draws_31 (fun c31 => ?_) (fun c31 => ?_)
              · obtain rfl : k = 6 := by omega
                refine g_aload_n rfl ld_0 61 rfl dX1_draws_60 ?_
                refine g_getf (kf := 10) (v := .ref (ad 10)) hM.1 rfl rfl in_X1 (by decide) q1671 rfl 64 rfl dX1_draws_61 ?_
                refine g_bipush (v := 7) (by decide) 66 rfl dX1_draws_64 ?_
                refine g_aload_n rfl ld_0 67 rfl dX1_draws_66 ?_
                refine g_getf (kf := 11) (v := .int (nI ((iniR (A 0) (A 10) d i).2.1))) hM.1 rfl rfl in_X1 (by decide) q1672 rfl 70 rfl dX1_draws_67 ?_
                refine g_imulN (a := 7) (c := ((iniR (A 0) (A 10) d i).2.1)) (show (7 : Int32) = nI 7 from rfl) rfl 71 rfl dX1_draws_70 ?_
                refine g_bipush (v := 6) (by decide) 73 rfl dX1_draws_71 ?_
                refine g_iaddN (a := (7 * ((iniR (A 0) (A 10) d i).2.1))) (c := 6) rfl (show (6 : Int32) = nI 6 from rfl) 74 rfl dX1_draws_73 ?_
                refine g_iload_n rfl ld_1 75 rfl dX1_draws_74 ?_
                refine gm_astU (j := ((7 * ((iniR (A 0) (A 10) d i).2.1)) + 6)) 10 (by decide) (by decide) hM rfl (by simp only [msz]; omega) 76 rfl dX1_draws_75 (fun σ hM => ?_)
                refine g_aload_n rfl ld_0 77 rfl dX1_draws_76 ?_
                refine g_getf (kf := 14) (v := .ref (ad 14)) hM.1 rfl rfl in_X1 (by decide) q1675 rfl 80 rfl dX1_draws_77 ?_
                refine g_aload_n rfl ld_0 81 rfl dX1_draws_80 ?_
                refine g_getf (kf := 11) (v := .int (nI ((iniR (A 0) (A 10) d i).2.1))) hM.1 rfl rfl in_X1 (by decide) q1672 rfl 84 rfl dX1_draws_81 ?_
                refine g_iconst (v := 0) (by decide) 85 rfl dX1_draws_84 ?_
                have hM : MW D h ad σ0 (upd (upd F 11 (nI ((iniR (A 0) (A 10) d i).2.1))) 13 ((0 : Int32))) (uA (uA A 10 (upd (cpP (iniR (A 0) (A 10) d i).1 (fun y => A 0 (7 * i + y)) (7 * (iniR (A 0) (A 10) d i).2.1) 6) (((7 * ((iniR (A 0) (A 10) d i).2.1)) + 6)) (nI i))) 14 (fun x => bI ((iniR (A 0) (A 10) d i).2.2 x))) σ := by
                  have e9 : uA (uA A 10 (upd (cpP (iniR (A 0) (A 10) d i).1 (fun y => A 0 (7 * i + y)) (7 * (iniR (A 0) (A 10) d i).2.1) 6) (((7 * ((iniR (A 0) (A 10) d i).2.1)) + 6)) (nI i))) 14 (fun x => bI ((iniR (A 0) (A 10) d i).2.2 x)) = uA (uA A 14 (fun x => bI ((iniR (A 0) (A 10) d i).2.2 x))) 10 (upd (cpP (iniR (A 0) (A 10) d i).1 (fun y => A 0 (7 * i + y)) (7 * (iniR (A 0) (A 10) d i).2.1) 6) (((7 * ((iniR (A 0) (A 10) d i).2.1)) + 6)) (nI i)) := by funext x9; by_cases h9 : x9 = 14 <;> simp [uA_ap, h9]
                  rw [e9]; exact hM
                refine gm_astZU (j := ((iniR (A 0) (A 10) d i).2.1)) hM rfl (by omega) nzv_0 86 rfl dX1_draws_85 (fun σ hM => ?_)
                refine g_aload_n rfl ld_0 87 rfl dX1_draws_86 ?_
                refine g_dup rfl 88 rfl dX1_draws_87 ?_
                refine g_getf (kf := 11) (v := .int (nI ((iniR (A 0) (A 10) d i).2.1))) hM.1 rfl rfl in_X1 (by decide) q1672 rfl 91 rfl dX1_draws_88 ?_
                refine g_iconst (v := 1) (by decide) 92 rfl dX1_draws_91 ?_
                refine g_iaddN (a := ((iniR (A 0) (A 10) d i).2.1)) (c := 1) rfl (show (1 : Int32) = nI 1 from rfl) 93 rfl dX1_draws_92 ?_
                have hM : MW D h ad σ0 (upd (upd F 13 ((0 : Int32))) 11 (nI ((iniR (A 0) (A 10) d i).2.1))) (uA (uA A 10 (upd (cpP (iniR (A 0) (A 10) d i).1 (fun y => A 0 (7 * i + y)) (7 * (iniR (A 0) (A 10) d i).2.1) 6) (((7 * ((iniR (A 0) (A 10) d i).2.1)) + 6)) (nI i))) 14 (upd (fun x => bI ((iniR (A 0) (A 10) d i).2.2 x)) (((iniR (A 0) (A 10) d i).2.1)) ((0 : Int32)))) σ := by
                  have e9 : upd (upd F 13 ((0 : Int32))) 11 (nI ((iniR (A 0) (A 10) d i).2.1)) = upd (upd F 11 (nI ((iniR (A 0) (A 10) d i).2.1))) 13 ((0 : Int32)) := by funext x9; by_cases h9 : x9 = 11 <;> simp [upd_ap, h9]
                  rw [e9]; exact hM
                refine gm_putU (v := nI (((iniR (A 0) (A 10) d i).2.1) + 1)) 11 (by decide) hM q1672 96 rfl dX1_draws_93 (fun σ hM => ?_)
                refine g_iinc (v := nI (i + 1)) ld_1 (nI_1 _) sa_1 99 rfl dX1_draws_96 ?_
                refine g_goto 12 (by decide) dX1_draws_99 ?_
                refine G_lv dr_2 ?_
                have hM : MW D h ad σ0 (upd (upd F 11 (nI ((iniR (A 0) (A 10) d ((i + 1))).2.1))) 13 ((0 : Int32))) (uA (uA A 10 ((iniR (A 0) (A 10) d ((i + 1))).1)) 14 (fun x => bI ((iniR (A 0) (A 10) d ((i + 1))).2.2 x))) σ := by
                  have e1 : upd (upd F 11 (nI ((iniR (A 0) (A 10) d ((i + 1))).2.1))) 13 ((0 : Int32)) = upd (upd F 13 ((0 : Int32))) 11 (nI (((iniR (A 0) (A 10) d i).2.1) + 1)) := by rw [upd_c (by decide), iniR, if_pos c23]
                  have e2 : uA (uA A 10 ((iniR (A 0) (A 10) d ((i + 1))).1)) 14 (fun x => bI ((iniR (A 0) (A 10) d ((i + 1))).2.2 x)) = uA (uA A 10 (upd (cpP (iniR (A 0) (A 10) d i).1 (fun y => A 0 (7 * i + y)) (7 * (iniR (A 0) (A 10) d i).2.1) 6) (((7 * ((iniR (A 0) (A 10) d i).2.1)) + 6)) (nI i))) 14 (upd (fun x => bI ((iniR (A 0) (A 10) d i).2.2 x)) (((iniR (A 0) (A 10) d i).2.1)) ((0 : Int32))) := by rw [iniR, if_pos c23]; dsimp only; rw [← updB_upd]; rfl
                  rw [e1, e2]; exact hM
                exact ih12 (i + 1) σ (by omega) (by omega)  hM
              · refine g_aload_n rfl ld_0 35 rfl dX1_draws_34 ?_
                refine g_getf (kf := 10) (v := .ref (ad 10)) hM.1 rfl rfl in_X1 (by decide) q1671 rfl 38 rfl dX1_draws_35 ?_
                refine g_bipush (v := 7) (by decide) 40 rfl dX1_draws_38 ?_
                refine g_aload_n rfl ld_0 41 rfl dX1_draws_40 ?_
                refine g_getf (kf := 11) (v := .int (nI ((iniR (A 0) (A 10) d i).2.1))) hM.1 rfl rfl in_X1 (by decide) q1672 rfl 44 rfl dX1_draws_41 ?_
                refine g_imulN (a := 7) (c := ((iniR (A 0) (A 10) d i).2.1)) (show (7 : Int32) = nI 7 from rfl) rfl 45 rfl dX1_draws_44 ?_
                refine g_iload_n rfl ld_2 46 rfl dX1_draws_45 ?_
                refine g_iaddN (a := (7 * ((iniR (A 0) (A 10) d i).2.1))) (c := k) rfl rfl 47 rfl dX1_draws_46 ?_
                refine g_aload_n rfl ld_0 48 rfl dX1_draws_47 ?_
                refine g_iload_n rfl ld_1 49 rfl dX1_draws_48 ?_
                refine g_iload_n rfl ld_2 50 rfl dX1_draws_49 ?_
                refine g_callV (As := [.int (nI i), .int (nI k)]) (rest := [.int (nI ((7 * ((iniR (A 0) (A 10) d i).2.1)) + k)), .ref (ad 10)]) (ci := 1) (v_X1_of z.l D b hM (w0 := A 0) rfl i k (by omega)) k_X1_of q1793 hM.1 rfl rfl rfl rfl (Nat.le_of_ble_eq_true rfl) ⟨Nat.le_of_ble_eq_true rfl, Nat.le_of_ble_eq_true rfl⟩ 0 0 (Nat.le_of_ble_eq_true rfl) (Nat.le_of_ble_eq_true rfl) (Nat.le_of_ble_eq_true rfl) (Nat.le_of_ble_eq_true rfl) 53 rfl dX1_draws_50 (fun v σ1 hq => ?_)
                obtain ⟨rfl, rfl⟩ := hq
                refine gm_astU (j := ((7 * ((iniR (A 0) (A 10) d i).2.1)) + k)) 10 (by decide) (by decide) hM rfl (by simp only [msz]; omega) 54 rfl dX1_draws_53 (fun σ hM => ?_)
                refine g_iinc (v := nI (k + 1)) ld_2 (nI_1 _) sa_2 57 rfl dX1_draws_54 ?_
                refine g_goto 28 (by decide) dX1_draws_57 ?_
                have hM : MW D h ad σ0 (upd (upd F 11 (nI ((iniR (A 0) (A 10) d i).2.1))) 13 ((0 : Int32))) (uA (uA A 14 (fun x => bI ((iniR (A 0) (A 10) d i).2.2 x))) 10 (cpP (iniR (A 0) (A 10) d i).1 (fun y => A 0 (7 * i + y)) (7 * (iniR (A 0) (A 10) d i).2.1) ((k + 1)))) σ := by
                  have e2 : uA (uA A 14 (fun x => bI ((iniR (A 0) (A 10) d i).2.2 x))) 10 (cpP (iniR (A 0) (A 10) d i).1 (fun y => A 0 (7 * i + y)) (7 * (iniR (A 0) (A 10) d i).2.1) ((k + 1))) = uA (uA A 14 (fun x => bI ((iniR (A 0) (A 10) d i).2.2 x))) 10 (upd (cpP (iniR (A 0) (A 10) d i).1 (fun y => A 0 (7 * i + y)) (7 * (iniR (A 0) (A 10) d i).2.1) k) (((7 * ((iniR (A 0) (A 10) d i).2.1)) + k)) ((A 0) (7 * i + k))) := by rw [cpP_s]
                  rw [e2]; exact hM
                exact ih28 (k + 1) σ (by omega) (by omega)  hM
          have hM : MW D h ad σ0 (upd (upd F 11 (nI ((iniR (A 0) (A 10) d i).2.1))) 13 ((0 : Int32))) (uA (uA A 14 (fun x => bI ((iniR (A 0) (A 10) d i).2.2 x))) 10 (cpP (iniR (A 0) (A 10) d i).1 (fun y => A 0 (7 * i + y)) (7 * (iniR (A 0) (A 10) d i).2.1) 0)) σ := by
            have e2 : uA (uA A 14 (fun x => bI ((iniR (A 0) (A 10) d i).2.2 x))) 10 (cpP (iniR (A 0) (A 10) d i).1 (fun y => A 0 (7 * i + y)) (7 * (iniR (A 0) (A 10) d i).2.1) 0) = uA (uA A 10 ((iniR (A 0) (A 10) d i).1)) 14 (fun x => bI ((iniR (A 0) (A 10) d i).2.2 x)) := by rw [cpP_0]; exact uA_c (by decide)
            rw [e2]; exact hM
          exact lp28 (6 + 1) 0 σ (by omega) (by omega)  hM
  have hM : MW D h ad σ0 (upd (upd F 11 (nI ((iniR (A 0) (A 10) d 0).2.1))) 13 ((0 : Int32))) (uA (uA A 10 ((iniR (A 0) (A 10) d 0).1)) 14 (fun x => bI ((iniR (A 0) (A 10) d 0).2.2 x))) σ := by
    have e1 : upd (upd F 11 (nI ((iniR (A 0) (A 10) d 0).2.1))) 13 ((0 : Int32)) = upd (upd F 11 ((0 : Int32))) 13 ((0 : Int32)) := by rfl
    have e2 : uA (uA A 10 ((iniR (A 0) (A 10) d 0).1)) 14 (fun x => bI ((iniR (A 0) (A 10) d 0).2.2 x)) = A := by show uA (uA A 10 (A 10)) 14 (fun x => bI (d x)) = A; rw [← hd, uA_self]; exact uA_self A 14
    rw [e1, e2]; exact hM
  exact lp12 (12 + 1) 0 σ (by omega) (by omega)  hM
theorem v_X1_draws (l : Launch) (D : DD) (b : Nat) {h : Nat} {ad : Nat → Nat} {σ0 : Hp} {F : Nat → Int32} {A : Nat → Nat → Int32} {σ : Hp} (hM : MW D h ad σ0 F A σ) {w0 : Nat → Int32} (hw0 : A 0 = w0) {w10 : Nat → Int32} (hw10 : A 10 = w10) (d : Nat → Bool) (hd : A 14 = fun x => bI (d x)) : CM l yX1_draws cX1_draws 3 (some .boolean) rX1_draws D b [.ref h] σ (PI (fun r σ' => ∃ (P : Nat → Int32) (pm : Nat) (d' : Nat → Bool) (dl : Nat → Nat) (dm : Nat) (s12 s15 : Nat → Int32) (f16 : Int32), pm ≤ 40 ∧ dm ≤ pm ∧ (∀ k, k < dm → dl k < pm) ∧ MW D h ad σ0 (upd (upd (upd F 11 (nI pm)) 13 (nI dm)) 16 f16) (uA (uA (uA (uA A 10 P) 14 (fun x => bI (d' x))) 12 (emb dm dl s12)) 15 s15) σ' ∧ ((r = 1 ∧ dwR 81 (ds0 (w0) (w10) d) = some (P, pm, d', dl, dm)) ∨ (r = 0 ∧ dwR 81 (ds0 (w0) (w10) d) = none)))) := by
  subst hw0
  subst hw10
  exact c_X1_draws l D b hM d hd
