/-! THE REFERENCE, part 9: slices, cutsLoop, draws -/
set_option maxRecDepth 100000
def updB (d : Nat → Bool) (k : Nat) (v : Bool) : Nat → Bool := fun x => if x = k then v else d x
theorem updB_upd (d : Nat → Bool) (k : Nat) (v : Bool) : upd (fun x => bI (d x)) k (bI v) = fun x => bI (updB d k v x) := by
  funext x
  simp only [upd, updB]
  split <;> rfl
theorem cpP_lo {q w : Nat → Int32} {s i x : Nat} (h : x < s) : cpP q w s i x = q x := by simp only [cpP]; rw [if_neg (by omega)]
def slR (P : Nat → Int32) (ax : Nat) (at0 : Int32) (lp : Nat → Nat) (ln p : Nat) : Bool := an (ilR lp p) ln && decide (P (7 * p + ax) < at0) && decide (at0 < P (7 * p + 3 + ax)) && an (fcR P ax at0 p lp) ln
def slN (P : Nat → Int32) (ax : Nat) (at0 : Int32) (lp : Nat → Nat) (ln pm : Nat) : Nat := ffN (slR P ax at0 lp ln) pm 0
theorem slN_le (P : Nat → Int32) (ax : Nat) (at0 : Int32) (lp : Nat → Nat) (ln pm : Nat) : slN P ax at0 lp ln pm ≤ pm := ffN_le _ _ _ (Nat.zero_le _)
def cutP (P : Nat → Int32) (pm p ax : Nat) (at0 : Int32) : Nat → Int32 := upd (upd (cpP P (fun y => P (7 * p + y)) (7 * pm) 7) (7 * pm + ax) at0) (7 * p + 3 + ax) at0
def rX1_slices : Room := { frames := 2, cells := 0, slots := 0, locals := 38 }
theorem k_X1_slices : CV yX1_slices cX1_slices 6 (some .boolean) 2 := ⟨q1906, qs64, q81, q1907, by decide +kernel, by decide +kernel, by decide +kernel⟩
set_option maxHeartbeats 2000000 in
theorem c_X1_slices (l : Launch) (D : DD) (b : Nat) {h : Nat} {ad : Nat → Nat} {σ0 : Hp} {F : Nat → Int32} {A : Nat → Nat → Int32} {σ : Hp} (hM : MW D h ad σ0 F A σ) (pm : Nat) (hpm : F 11 = nI pm) (hpm39 : pm < 40) (d : Nat → Bool) (hd : A 14 = fun x => bI (d x)) (ln : Nat) (hln : F 16 = nI ln) (hln40 : ln ≤ 40) (lp : Nat → Nat) (hlp : ∀ k, k < ln → A 15 k = nI (lp k)) (hlp40 : ∀ k, k < ln → lp k < 40) (ax : Nat) (hax : ax < 3) (at0 : Int32) : CM l yX1_slices cX1_slices 6 (some .boolean) rX1_slices D b [.ref h, .int (nI ax), .int at0] σ (PI (fun r σ' => ((slN (A 10) ax at0 lp ln pm) < pm ∧ r = 1 ∧ MW D h ad σ0 (upd F 11 (nI (pm + 1))) (uA (uA A 10 (cutP (A 10) pm (slN (A 10) ax at0 lp ln pm) ax at0)) 14 (fun x => bI (updB d pm false x))) σ') ∨ ((slN (A 10) ax at0 lp ln pm) = pm ∧ r = 0 ∧ MW D h ad σ0 F A σ'))) := by
  refine CM_of [some (.ref h), some (.int (nI ax)), some (.int at0), none, none, none] RX1 (by decide) rfl (cat_all rfl) (Nat.le_of_ble_eq_true rfl) rfl ?_
  intro z hz hR hnm
  refine g_aload_n rfl ld_0 1 rfl dX1_slices_0 ?_
  refine g_getf (kf := 11) (v := .int (nI pm)) hM.1 (by rw [← hpm]; rfl) rfl in_X1 (by decide) q1672 rfl 4 rfl dX1_slices_1 ?_
  refine g_istore_n rfl sa_3 5 rfl dX1_slices_4 ?_
  refine g_iconst (v := 0) (by decide) 6 rfl dX1_slices_5 ?_
  refine g_istore sa_4 8 rfl dX1_slices_6 ?_
  have lp8 : ∀ (fu p : Nat), p ≤ pm → pm + 1 ≤ p + fu → (slN (A 10) ax at0 lp ln pm = ffN (slR (A 10) ax at0 lp ln) pm p) → G z cX1_slices RX1 6 rX1_slices D b σ 0 0 8 [some (.ref h), some (.int (nI ax)), some (.int at0), some (.int (nI pm)), some (.int (nI p)), none] [] := by
    intro fu
    induction fu with
    | zero => intros; omega
    | succ fu ih8 =>
      intro p  hp hf hx
      refine g_iload ld_4 10 rfl dX1_slices_8 ?_
      refine g_iload_n rfl ld_3 11 rfl dX1_slices_10 ?_
      refine g_icmp_geN (a := p) (c := pm) rfl rfl (by omega) (by omega) 161 14 rfl (by decide) dX1_slices_11 (fun c11 => ?_) (fun c11 => ?_)
      · refine g_iconst (v := 0) (by decide) 162 rfl dX1_slices_161 ?_
        exact g_iret hR nz_0 (Nat.le_of_ble_eq_true rfl) (Nat.le_of_ble_eq_true rfl) ⟨_, rfl, Or.inr ⟨hx.trans (ffN_end (by omega)), rfl, hM⟩⟩ dX1_slices_162
      · refine g_aload_n rfl ld_0 15 rfl dX1_slices_14 ?_
        refine g_iload ld_4 17 rfl dX1_slices_15 ?_
        refine g_callV (As := [.int (nI p)]) (rest := []) (ci := 1) (c_X1_isInLoop z.l D b hM ln hln hln40 lp hlp hlp40 p (by omega)) k_X1_isInLoop q1908 hM.1 rfl rfl rfl rfl (Nat.le_of_ble_eq_true rfl) ⟨Nat.le_of_ble_eq_true rfl, Nat.le_of_ble_eq_true rfl⟩ 0 0 (Nat.le_of_ble_eq_true rfl) (Nat.le_of_ble_eq_true rfl) (Nat.le_of_ble_eq_true rfl) (Nat.le_of_ble_eq_true rfl) 20 rfl dX1_slices_17 (fun v σ1 hq => ?_)
        obtain ⟨rfl, rfl⟩ := hq
        refine g_if_eqB 155 23 rfl (by decide) dX1_slices_20 (fun c20 => ?_) (fun c20 => ?_)
        · refine g_iinc (v := nI (p + 1)) ld_4 (nI_1 _) sa_4 158 rfl dX1_slices_155 ?_
          refine g_goto 8 (by decide) dX1_slices_158 ?_
          exact ih8 (p + 1) (by omega) (by omega) (hx.trans (ffN_miss (by omega) (by simp [slR, *])))
        · refine g_aload_n rfl ld_0 24 rfl dX1_slices_23 ?_
          refine g_getf (kf := 10) (v := .ref (ad 10)) hM.1 rfl rfl in_X1 (by decide) q1671 rfl 27 rfl dX1_slices_24 ?_
          refine g_bipush (v := 7) (by decide) 29 rfl dX1_slices_27 ?_
          refine g_iload ld_4 31 rfl dX1_slices_29 ?_
          refine g_imulN (a := 7) (c := p) (show (7 : Int32) = nI 7 from rfl) rfl 32 rfl dX1_slices_31 ?_
          refine g_iload_n rfl ld_1 33 rfl dX1_slices_32 ?_
          refine g_iaddN (a := (7 * p)) (c := ax) rfl rfl 34 rfl dX1_slices_33 ?_
          refine g_iald (j := ((7 * p) + ax)) (f := A 10) hM.a10 rfl (by omega) (by decide) 35 rfl dX1_slices_34 ?_
          refine g_iload_n rfl ld_2 36 rfl dX1_slices_35 ?_
          refine g_icmp_ge 155 39 rfl (by decide) dX1_slices_36 (fun c36 => ?_) (fun c36 => ?_)
          · refine g_iinc (v := nI (p + 1)) ld_4 (nI_1 _) sa_4 158 rfl dX1_slices_155 ?_
            refine g_goto 8 (by decide) dX1_slices_158 ?_
            exact ih8 (p + 1) (by omega) (by omega) (hx.trans (ffN_miss (by omega) (by simp [slR, *])))
          · refine g_iload_n rfl ld_2 40 rfl dX1_slices_39 ?_
            refine g_aload_n rfl ld_0 41 rfl dX1_slices_40 ?_
            refine g_getf (kf := 10) (v := .ref (ad 10)) hM.1 rfl rfl in_X1 (by decide) q1671 rfl 44 rfl dX1_slices_41 ?_
            refine g_bipush (v := 7) (by decide) 46 rfl dX1_slices_44 ?_
            refine g_iload ld_4 48 rfl dX1_slices_46 ?_
            refine g_imulN (a := 7) (c := p) (show (7 : Int32) = nI 7 from rfl) rfl 49 rfl dX1_slices_48 ?_
            refine g_iconst (v := 3) (by decide) 50 rfl dX1_slices_49 ?_
            refine g_iaddN (a := (7 * p)) (c := 3) rfl (show (3 : Int32) = nI 3 from rfl) 51 rfl dX1_slices_50 ?_
            refine g_iload_n rfl ld_1 52 rfl dX1_slices_51 ?_
            refine g_iaddN (a := ((7 * p) + 3)) (c := ax) rfl rfl 53 rfl dX1_slices_52 ?_
            refine g_iald (j := (((7 * p) + 3) + ax)) (f := A 10) hM.a10 rfl (by omega) (by decide) 54 rfl dX1_slices_53 ?_
            refine g_icmp_ge 155 57 rfl (by decide) dX1_slices_54 (fun c54 => ?_) (fun c54 => ?_)
            · refine g_iinc (v := nI (p + 1)) ld_4 (nI_1 _) sa_4 158 rfl dX1_slices_155 ?_
              refine g_goto 8 (by decide) dX1_slices_158 ?_
              exact ih8 (p + 1) (by omega) (by omega) (hx.trans (ffN_miss (by omega) (by simp [slR, *])))
            · refine g_aload_n rfl ld_0 58 rfl dX1_slices_57 ?_
              refine g_iload_n rfl ld_1 59 rfl dX1_slices_58 ?_
              refine g_iload_n rfl ld_2 60 rfl dX1_slices_59 ?_
              refine g_iload ld_4 62 rfl dX1_slices_60 ?_
              refine g_callV (As := [.int (nI ax), .int at0, .int (nI p)]) (rest := []) (ci := 1) (v_X1_isFace z.l D b hM (w10 := A 10) rfl ln hln hln40 lp hlp hlp40 ax (by omega) at0 p (by omega)) k_X1_isFace q1912 hM.1 rfl rfl rfl rfl (Nat.le_of_ble_eq_true rfl) ⟨Nat.le_of_ble_eq_true rfl, Nat.le_of_ble_eq_true rfl⟩ 0 0 (Nat.le_of_ble_eq_true rfl) (Nat.le_of_ble_eq_true rfl) (Nat.le_of_ble_eq_true rfl) (Nat.le_of_ble_eq_true rfl) 65 rfl dX1_slices_62 (fun v σ1 hq => ?_)
              obtain ⟨rfl, rfl⟩ := hq
              refine g_if_eqB 155 68 rfl (by decide) dX1_slices_65 (fun c65 => ?_) (fun c65 => ?_)
              · refine g_iinc (v := nI (p + 1)) ld_4 (nI_1 _) sa_4 158 rfl dX1_slices_155 ?_
                refine g_goto 8 (by decide) dX1_slices_158 ?_
                exact ih8 (p + 1) (by omega) (by omega) (hx.trans (ffN_miss (by omega) (by simp [slR, *])))
              · have hs : slN (A 10) ax at0 lp ln pm = p := hx.trans (ffN_hit (by omega) (by simp [slR, *]))
                refine g_iconst (v := 0) (by decide) 69 rfl dX1_slices_68 ?_
                refine g_istore sa_5 71 rfl dX1_slices_69 ?_
                have lp71 : ∀ (fu k : Nat) (σ : Hp), k ≤ 7 → 7 + 1 ≤ k + fu → MW D h ad σ0 F (uA A 10 (cpP (A 10) (fun y => A 10 (7 * p + y)) (7 * pm) k)) σ → G z cX1_slices RX1 6 rX1_slices D b σ 0 0 71 [some (.ref h), some (.int (nI ax)), some (.int at0), some (.int (nI pm)), some (.int (nI p)), some (.int (nI k))] [] := by
                  intro fu
                  induction fu with
                  | zero => intros; omega
                  | succ fu ih71 =>
                    intro k σ hk hf  hM
                    refine g_iload ld_5 73 rfl dX1_slices_71 ?_
                    refine g_bipush (v := 7) (by decide) 75 rfl dX1_slices_73 ?_
                    refine g_icmp_geN (a := k) (c := 7) rfl (show (7 : Int32) = nI 7 from rfl) (by omega) (by omega) 109 78 rfl (by decide) dX1_slices_75 (fun c75 => ?_) (fun c75 => ?_)
                    · obtain rfl : k = 7 := by omega
                      refine g_aload_n rfl ld_0 110 rfl dX1_slices_109 ?_
                      refine g_getf (kf := 10) (v := .ref (ad 10)) hM.1 rfl rfl in_X1 (by decide) q1671 rfl 113 rfl dX1_slices_110 ?_
                      refine g_bipush (v := 7) (by decide) 115 rfl dX1_slices_113 ?_
                      refine g_iload_n rfl ld_3 116 rfl dX1_slices_115 ?_
                      refine g_imulN (a := 7) (c := pm) (show (7 : Int32) = nI 7 from rfl) rfl 117 rfl dX1_slices_116 ?_
                      refine g_iload_n rfl ld_1 118 rfl dX1_slices_117 ?_
                      refine g_iaddN (a := (7 * pm)) (c := ax) rfl rfl 119 rfl dX1_slices_118 ?_
                      refine g_iload_n rfl ld_2 120 rfl dX1_slices_119 ?_
                      refine gm_astU (j := ((7 * pm) + ax)) 10 (by decide) (by decide) hM rfl (by simp only [msz]; omega) 121 rfl dX1_slices_120 (fun σ hM => ?_)
                      refine g_aload_n rfl ld_0 122 rfl dX1_slices_121 ?_
                      refine g_getf (kf := 10) (v := .ref (ad 10)) hM.1 rfl rfl in_X1 (by decide) q1671 rfl 125 rfl dX1_slices_122 ?_
                      refine g_bipush (v := 7) (by decide) 127 rfl dX1_slices_125 ?_
                      refine g_iload ld_4 129 rfl dX1_slices_127 ?_
                      refine g_imulN (a := 7) (c := p) (show (7 : Int32) = nI 7 from rfl) rfl 130 rfl dX1_slices_129 ?_
                      refine g_iconst (v := 3) (by decide) 131 rfl dX1_slices_130 ?_
                      refine g_iaddN (a := (7 * p)) (c := 3) rfl (show (3 : Int32) = nI 3 from rfl) 132 rfl dX1_slices_131 ?_
                      refine g_iload_n rfl ld_1 133 rfl dX1_slices_132 ?_
                      refine g_iaddN (a := ((7 * p) + 3)) (c := ax) rfl rfl 134 rfl dX1_slices_133 ?_
                      refine g_iload_n rfl ld_2 135 rfl dX1_slices_134 ?_
                      refine gm_astU (j := (((7 * p) + 3) + ax)) 10 (by decide) (by decide) hM rfl (by simp only [msz]; omega) 136 rfl dX1_slices_135 (fun σ hM => ?_)
                      refine g_aload_n rfl ld_0 137 rfl dX1_slices_136 ?_
                      refine g_getf (kf := 14) (v := .ref (ad 14)) hM.1 rfl rfl in_X1 (by decide) q1675 rfl 140 rfl dX1_slices_137 ?_
                      refine g_iload_n rfl ld_3 141 rfl dX1_slices_140 ?_
                      refine g_iconst (v := 0) (by decide) 142 rfl dX1_slices_141 ?_
                      refine gm_astZ (j := pm) hM rfl (by omega) nzv_0 143 rfl dX1_slices_142 (fun σ hM => ?_)
                      refine g_aload_n rfl ld_0 144 rfl dX1_slices_143 ?_
                      refine g_dup rfl 145 rfl dX1_slices_144 ?_
                      refine g_getf (kf := 11) (v := .int (nI pm)) hM.1 (by rw [← hpm]; rfl) rfl in_X1 (by decide) q1672 rfl 148 rfl dX1_slices_145 ?_
                      refine g_iconst (v := 1) (by decide) 149 rfl dX1_slices_148 ?_
                      refine g_iaddN (a := pm) (c := 1) rfl (show (1 : Int32) = nI 1 from rfl) 150 rfl dX1_slices_149 ?_
                      refine gm_put (v := nI (pm + 1)) 11 (by decide) hM q1672 153 rfl dX1_slices_150 (fun σ hM => ?_)
                      refine g_iconst (v := 1) (by decide) 154 rfl dX1_slices_153 ?_
                      have hM : MW D h ad σ0 (upd F 11 (nI (pm + 1))) (uA (uA A 10 (cutP (A 10) pm (slN (A 10) ax at0 lp ln pm) ax at0)) 14 (fun x => bI (updB d pm false x))) σ := by
                        have e2 : uA (uA A 10 (cutP (A 10) pm (slN (A 10) ax at0 lp ln pm) ax at0)) 14 (fun x => bI (updB d pm false x)) = uA (uA A 10 (upd (upd (cpP (A 10) (fun y => A 10 (7 * p + y)) (7 * pm) 7) (((7 * pm) + ax)) at0) ((((7 * p) + 3) + ax)) at0)) 14 (upd (A 14) pm ((0 : Int32))) := by rw [hs, ← updB_upd, ← hd]; rfl
                        rw [e2]; exact hM
                      exact g_iret hR nz_1 (Nat.le_of_ble_eq_true rfl) (Nat.le_of_ble_eq_true rfl) ⟨_, rfl, Or.inl ⟨by omega, rfl, hM⟩⟩ dX1_slices_154
                    · refine g_aload_n rfl ld_0 79 rfl dX1_slices_78 ?_
                      refine g_getf (kf := 10) (v := .ref (ad 10)) hM.1 rfl rfl in_X1 (by decide) q1671 rfl 82 rfl dX1_slices_79 ?_
                      refine g_bipush (v := 7) (by decide) 84 rfl dX1_slices_82 ?_
                      refine g_iload_n rfl ld_3 85 rfl dX1_slices_84 ?_
                      refine g_imulN (a := 7) (c := pm) (show (7 : Int32) = nI 7 from rfl) rfl 86 rfl dX1_slices_85 ?_
                      refine g_iload ld_5 88 rfl dX1_slices_86 ?_
                      refine g_iaddN (a := (7 * pm)) (c := k) rfl rfl 89 rfl dX1_slices_88 ?_
                      refine g_aload_n rfl ld_0 90 rfl dX1_slices_89 ?_
                      refine g_getf (kf := 10) (v := .ref (ad 10)) hM.1 rfl rfl in_X1 (by decide) q1671 rfl 93 rfl dX1_slices_90 ?_
                      refine g_bipush (v := 7) (by decide) 95 rfl dX1_slices_93 ?_
                      refine g_iload ld_4 97 rfl dX1_slices_95 ?_
                      refine g_imulN (a := 7) (c := p) (show (7 : Int32) = nI 7 from rfl) rfl 98 rfl dX1_slices_97 ?_
                      refine g_iload ld_5 100 rfl dX1_slices_98 ?_
                      refine g_iaddN (a := (7 * p)) (c := k) rfl rfl 101 rfl dX1_slices_100 ?_
                      refine g_ialdE (j := ((7 * p) + k)) (f := cpP (A 10) (fun y => A 10 (7 * p + y)) (7 * pm) k) (v := A 10 (((7 * p) + k))) hM.a10 rfl (by omega) (by decide) (cpP_lo (by omega)) 102 rfl dX1_slices_101 ?_
                      refine gm_astU (j := ((7 * pm) + k)) 10 (by decide) (by decide) hM rfl (by simp only [msz]; omega) 103 rfl dX1_slices_102 (fun σ hM => ?_)
                      refine g_iinc (v := nI (k + 1)) ld_5 (nI_1 _) sa_5 106 rfl dX1_slices_103 ?_
                      refine g_goto 71 (by decide) dX1_slices_106 ?_
                      have hM : MW D h ad σ0 F (uA A 10 (cpP (A 10) (fun y => A 10 (7 * p + y)) (7 * pm) ((k + 1)))) σ := by
                        have e2 : uA A 10 (cpP (A 10) (fun y => A 10 (7 * p + y)) (7 * pm) ((k + 1))) = uA A 10 (upd (cpP (A 10) (fun y => A 10 (7 * p + y)) (7 * pm) k) (((7 * pm) + k)) (A 10 (((7 * p) + k)))) := by rw [cpP_s]
                        rw [e2]; exact hM
                      exact ih71 (k + 1) σ (by omega) (by omega)  hM
                have hM : MW D h ad σ0 F (uA A 10 (cpP (A 10) (fun y => A 10 (7 * p + y)) (7 * pm) 0)) σ := by
                  have e2 : uA A 10 (cpP (A 10) (fun y => A 10 (7 * p + y)) (7 * pm) 0) = A := by rw [cpP_0, uA_self]
                  rw [e2]; exact hM
                exact lp71 (7 + 1) 0 σ (by omega) (by omega)  hM
  exact lp8 (pm + 1) 0 (by omega) (by omega) (rfl)
theorem v_X1_slices (l : Launch) (D : DD) (b : Nat) {h : Nat} {ad : Nat → Nat} {σ0 : Hp} {F : Nat → Int32} {A : Nat → Nat → Int32} {σ : Hp} (hM : MW D h ad σ0 F A σ) {w10 : Nat → Int32} (hw10 : A 10 = w10) (pm : Nat) (hpm : F 11 = nI pm) (hpm39 : pm < 40) (d : Nat → Bool) (hd : A 14 = fun x => bI (d x)) (ln : Nat) (hln : F 16 = nI ln) (hln40 : ln ≤ 40) (lp : Nat → Nat) (hlp : ∀ k, k < ln → A 15 k = nI (lp k)) (hlp40 : ∀ k, k < ln → lp k < 40) (ax : Nat) (hax : ax < 3) (at0 : Int32) : CM l yX1_slices cX1_slices 6 (some .boolean) rX1_slices D b [.ref h, .int (nI ax), .int at0] σ (PI (fun r σ' => ((slN (w10) ax at0 lp ln pm) < pm ∧ r = 1 ∧ MW D h ad σ0 (upd F 11 (nI (pm + 1))) (uA (uA A 10 (cutP (w10) pm (slN (w10) ax at0 lp ln pm) ax at0)) 14 (fun x => bI (updB d pm false x))) σ') ∨ ((slN (w10) ax at0 lp ln pm) = pm ∧ r = 0 ∧ MW D h ad σ0 F A σ'))) := by
  subst hw10
  exact c_X1_slices l D b hM pm hpm hpm39 d hd ln hln hln40 lp hlp hlp40 ax hax at0
def cutA (P : Nat → Int32) (lp : Nat → Nat) (ln pm ax : Nat) : Nat := ffN (fun a => decide (1 ≤ a) && decide (slN P ax (nI a) lp ln pm < pm)) 32 0
def axN (P : Nat → Int32) (lp : Nat → Nat) (ln pm : Nat) : Nat := ffN (fun ax => decide (cutA P lp ln pm ax < 32)) 3 0
def cAx (P : Nat → Int32) (d : Nat → Bool) (pm : Nat) : Nat := axN P (lpN P d pm) (lnN P d pm) pm
def cAt (P : Nat → Int32) (d : Nat → Bool) (pm : Nat) : Nat := cutA P (lpN P d pm) (lnN P d pm) pm (cAx P d pm)
def cPc (P : Nat → Int32) (d : Nat → Bool) (pm : Nat) : Nat := slN P (cAx P d pm) (nI (cAt P d pm)) (lpN P d pm) (lnN P d pm) pm
theorem lnN_le (P : Nat → Int32) (d : Nat → Bool) (pm : Nat) : lnN P d pm ≤ 41 := by
  have := ffN_le (fun m => an (fun k => decide (wkN P d pm k = wkN P d pm m)) m) 41 0 (by omega)
  unfold lnN mN
  omega
theorem lnN_le40 {P : Nat → Int32} {d : Nat → Bool} {pm : Nat} (hpm : pm ≤ 40) (h0 : wkN P d pm 0 < pm) (hB : allB P d pm) : lnN P d pm ≤ 40 ∧ ∀ k, lpN P d pm k < pm := by
  refine ⟨?_, fun k => (wkN_ok h0 hB _).1⟩
  have hm : mN P d pm ≤ pm := by
    obtain ⟨-, b, -⟩ := ffN_spec (p := fun m => an (fun k => decide (wkN P d pm k = wkN P d pm m)) m) (n := 41) 41 0 (by omega) (by omega)
    refine pigeon pm _ (wkN P d pm) (fun i _ => (wkN_ok h0 hB i).1) (fun i j h1 h2 e => ?_)
    have := b j (by omega) h2
    rw [an_iff.2 ⟨i, h1, by simpa using e⟩] at this
    cases this
  unfold lnN
  omega
def rX1_cutsLoop : Room := { frames := 7, cells := 0, slots := 0, locals := 155 }
theorem k_X1_cutsLoop : CV yX1_cutsLoop cX1_cutsLoop 3 (some .boolean) 0 := ⟨q1898, qs62, q81, q1899, by decide +kernel, by decide +kernel, by decide +kernel⟩
set_option maxHeartbeats 2000000 in
theorem c_X1_cutsLoop (l : Launch) (D : DD) (b : Nat) {h : Nat} {ad : Nat → Nat} {σ0 : Hp} {F : Nat → Int32} {A : Nat → Nat → Int32} {σ : Hp} (hM : MW D h ad σ0 F A σ) (pm : Nat) (hpm : F 11 = nI pm) (hpm39 : pm < 40) (hpm40 : pm ≤ 40) (d : Nat → Bool) (hd : A 14 = fun x => bI (d x)) (h0 : wkN (A 10) d pm 0 < pm) (hB : allB (A 10) d pm) : CM l yX1_cutsLoop cX1_cutsLoop 3 (some .boolean) rX1_cutsLoop D b [.ref h] σ (PI (fun r σ' => ∃ s15, (cAx (A 10) d pm < 3 ∧ r = 1 ∧ MW D h ad σ0 (upd (upd F 16 (nI (lnN (A 10) d pm))) 11 (nI (pm + 1))) (uA (uA (uA A 15 (emb (lnN (A 10) d pm) (lpN (A 10) d pm) s15)) 10 (cutP (A 10) pm (cPc (A 10) d pm) (cAx (A 10) d pm) (nI (cAt (A 10) d pm)))) 14 (fun x => bI (updB d pm false x))) σ') ∨ (cAx (A 10) d pm = 3 ∧ r = 0 ∧ MW D h ad σ0 (upd F 16 (nI (lnN (A 10) d pm))) (uA A 15 (emb (lnN (A 10) d pm) (lpN (A 10) d pm) s15)) σ'))) := by
  refine CM_of [some (.ref h), none, none] RX1 (by decide) rfl (cat_all rfl) (Nat.le_of_ble_eq_true rfl) rfl ?_
  intro z hz hR hnm
  refine g_aload_n rfl ld_0 1 rfl dX1_cutsLoop_0 ?_
  refine g_callV (As := []) (rest := []) (ci := 1) (v_X1_layLoop z.l D b hM (w10 := A 10) rfl pm hpm (by omega) d hd h0 hB) k_X1_layLoop q1900 hM.1 rfl rfl rfl rfl (Nat.le_of_ble_eq_true rfl) ⟨Nat.le_of_ble_eq_true rfl, Nat.le_of_ble_eq_true rfl⟩ 0 0 (Nat.le_of_ble_eq_true rfl) (Nat.le_of_ble_eq_true rfl) (Nat.le_of_ble_eq_true rfl) (Nat.le_of_ble_eq_true rfl) 4 rfl dX1_cutsLoop_1 (fun v σ1 hq => ?_)
  obtain ⟨rfl, s15, hM⟩ := hq
  revert σ1
  intro σ hM
  obtain ⟨hln, hlp⟩ := lnN_le40 hpm40 h0 hB
  refine g_iconst (v := 0) (by decide) 5 rfl dX1_cutsLoop_4 ?_
  refine g_istore_n rfl sa_1 6 rfl dX1_cutsLoop_5 ?_
  have lp6 : ∀ (fu ax : Nat) (σ : Hp), ax ≤ 3 → 3 + 1 ≤ ax + fu → (cAx (A 10) d pm = ffN (fun ax => decide (cutA (A 10) (lpN (A 10) d pm) (lnN (A 10) d pm) pm ax < 32)) 3 ax) → MW D h ad σ0 (upd F 16 (nI (lnN (A 10) d pm))) (uA A 15 (emb (lnN (A 10) d pm) (lpN (A 10) d pm) s15)) σ → G z cX1_cutsLoop RX1 3 rX1_cutsLoop D b σ 0 0 6 [some (.ref h), some (.int (nI ax)), none] [] := by
    intro fu
    induction fu with
    | zero => intros; omega
    | succ fu ih6 =>
      intro ax σ hax hf hx hM
      refine g_iload_n rfl ld_1 7 rfl dX1_cutsLoop_6 ?_
      refine g_iconst (v := 3) (by decide) 8 rfl dX1_cutsLoop_7 ?_
      refine g_icmp_geN (a := ax) (c := 3) rfl (show (3 : Int32) = nI 3 from rfl) (by omega) (by omega) 42 11 rfl (by decide) dX1_cutsLoop_8 (fun c8 => ?_) (fun c8 => ?_)
      · refine g_iconst (v := 0) (by decide) 43 rfl dX1_cutsLoop_42 ?_
        exact g_iret hR nz_0 (Nat.le_of_ble_eq_true rfl) (Nat.le_of_ble_eq_true rfl) ⟨_, rfl, s15, Or.inr ⟨hx.trans (ffN_end (by omega)), rfl, hM⟩⟩ dX1_cutsLoop_43
      · refine g_iconst (v := 1) (by decide) 12 rfl dX1_cutsLoop_11 ?_
        refine g_istore_n rfl sa_2 13 rfl dX1_cutsLoop_12 ?_
        have lp13 : ∀ (fu a : Nat) (σ : Hp), a ≤ 32 → 32 + 1 ≤ a + fu → (cutA (A 10) (lpN (A 10) d pm) (lnN (A 10) d pm) pm ax = ffN (fun a => decide (1 ≤ a) && decide (slN (A 10) ax (nI a) (lpN (A 10) d pm) (lnN (A 10) d pm) pm < pm)) 32 a) → (1 ≤ a) → MW D h ad σ0 (upd F 16 (nI (lnN (A 10) d pm))) (uA A 15 (emb (lnN (A 10) d pm) (lpN (A 10) d pm) s15)) σ → G z cX1_cutsLoop RX1 3 rX1_cutsLoop D b σ 0 0 13 [some (.ref h), some (.int (nI ax)), some (.int (nI a))] [] := by
          intro fu
          induction fu with
          | zero => intros; omega
          | succ fu ih13 =>
            intro a σ ha hf hy ha1 hM
            refine g_iload_n rfl ld_2 14 rfl dX1_cutsLoop_13 ?_
            refine g_bipush (v := 32) (by decide) 16 rfl dX1_cutsLoop_14 ?_
            refine g_icmp_geN (a := a) (c := 32) rfl (show (32 : Int32) = nI 32 from rfl) (by omega) (by omega) 36 19 rfl (by decide) dX1_cutsLoop_16 (fun c16 => ?_) (fun c16 => ?_)
            · refine g_iinc (v := nI (ax + 1)) ld_1 (nI_1 _) sa_1 39 rfl dX1_cutsLoop_36 ?_
              refine g_goto 6 (by decide) dX1_cutsLoop_39 ?_
              refine G_lv dr_2 ?_
              exact ih6 (ax + 1) σ (by omega) (by omega) (hx.trans (ffN_miss (by omega) (by rw [hy, ffN_end (by omega)]; decide))) hM
            · refine g_aload_n rfl ld_0 20 rfl dX1_cutsLoop_19 ?_
              refine g_iload_n rfl ld_1 21 rfl dX1_cutsLoop_20 ?_
              refine g_iload_n rfl ld_2 22 rfl dX1_cutsLoop_21 ?_
              refine g_callV (As := [.int (nI ax), .int (nI a)]) (rest := []) (ci := 1) (v_X1_slices z.l D b hM (w10 := A 10) rfl pm hpm (by omega) d hd (lnN (A 10) d pm) rfl (by omega) (lpN (A 10) d pm) (fun k hk => emb_at hk) (fun k hk => Nat.lt_of_lt_of_le (hlp k) hpm40) ax (by omega) (nI a)) k_X1_slices q1904 hM.1 rfl rfl rfl rfl (Nat.le_of_ble_eq_true rfl) ⟨Nat.le_of_ble_eq_true rfl, Nat.le_of_ble_eq_true rfl⟩ 0 0 (Nat.le_of_ble_eq_true rfl) (Nat.le_of_ble_eq_true rfl) (Nat.le_of_ble_eq_true rfl) (Nat.le_of_ble_eq_true rfl) 25 rfl dX1_cutsLoop_22 (fun v σ1 hq => ?_)
              obtain ⟨_, rfl, hq⟩ := hq
              rcases hq with ⟨hs, rfl, hM⟩ | ⟨hs, rfl, hM⟩
              · revert σ1
                intro σ hM
                refine g_if_eq 30 28 rfl (by decide) dX1_cutsLoop_25 (fun cz => absurd cz (by decide)) (fun cz => ?_)
                refine g_iconst (v := 1) (by decide) 29 rfl dX1_cutsLoop_28 ?_
                have ey : cutA (A 10) (lpN (A 10) d pm) (lnN (A 10) d pm) pm ax = a := hy.trans (ffN_hit (by omega) (by simp [*]))
                have ex : cAx (A 10) d pm = ax := hx.trans (ffN_hit (by omega) (by rw [ey]; simp; omega))
                have et : cAt (A 10) d pm = a := by rw [cAt, ex, ey]
                have ep : cPc (A 10) d pm = slN (A 10) ax (nI a) (lpN (A 10) d pm) (lnN (A 10) d pm) pm := by rw [cPc, ex, et]
                exact g_iret hR nz_1 (Nat.le_of_ble_eq_true rfl) (Nat.le_of_ble_eq_true rfl) ⟨_, rfl, s15, Or.inl ⟨by omega, rfl, by rw [ep, ex, et]; exact hM⟩⟩ dX1_cutsLoop_29
              · revert σ1
                intro σ hM
                refine g_if_eq 30 28 rfl (by decide) dX1_cutsLoop_25 (fun cz => ?_) (fun cz => absurd cz (by decide))
                refine g_iinc (v := nI (a + 1)) ld_2 (nI_1 _) sa_2 33 rfl dX1_cutsLoop_30 ?_
                refine g_goto 13 (by decide) dX1_cutsLoop_33 ?_
                exact ih13 (a + 1) σ (by omega) (by omega) (hy.trans (ffN_miss (by omega) (by simp [hs]))) (by omega) hM
        exact lp13 (32 + 1) 1 σ (by omega) (by omega) (ffN_miss (by omega) (by simp)) (Nat.le_refl 1) hM
  exact lp6 (3 + 1) 0 σ (by omega) (by omega) (rfl) hM
theorem v_X1_cutsLoop (l : Launch) (D : DD) (b : Nat) {h : Nat} {ad : Nat → Nat} {σ0 : Hp} {F : Nat → Int32} {A : Nat → Nat → Int32} {σ : Hp} (hM : MW D h ad σ0 F A σ) {w10 : Nat → Int32} (hw10 : A 10 = w10) (pm : Nat) (hpm : F 11 = nI pm) (hpm39 : pm < 40) (hpm40 : pm ≤ 40) (d : Nat → Bool) (hd : A 14 = fun x => bI (d x)) (h0 : wkN (A 10) d pm 0 < pm) (hB : allB (A 10) d pm) : CM l yX1_cutsLoop cX1_cutsLoop 3 (some .boolean) rX1_cutsLoop D b [.ref h] σ (PI (fun r σ' => ∃ s15, (cAx (w10) d pm < 3 ∧ r = 1 ∧ MW D h ad σ0 (upd (upd F 16 (nI (lnN (w10) d pm))) 11 (nI (pm + 1))) (uA (uA (uA A 15 (emb (lnN (w10) d pm) (lpN (w10) d pm) s15)) 10 (cutP (w10) pm (cPc (w10) d pm) (cAx (w10) d pm) (nI (cAt (w10) d pm)))) 14 (fun x => bI (updB d pm false x))) σ') ∨ (cAx (w10) d pm = 3 ∧ r = 0 ∧ MW D h ad σ0 (upd F 16 (nI (lnN (w10) d pm))) (uA A 15 (emb (lnN (w10) d pm) (lpN (w10) d pm) s15)) σ'))) := by
  subst hw10
  exact c_X1_cutsLoop l D b hM pm hpm hpm39 hpm40 d hd h0 hB
