/-! THE REFERENCE, part 16: pieces, cuts, piece, drawnLast -/
set_option maxRecDepth 100000
def dO (w P : Nat → Int32) (d : Nat → Bool) : Option DS := dwR 81 (ds0 w P d)
def pcsR (o : Option DS) : Int32 := match o with | none => -104 | some s => nI s.2.1
def cutsR (o : Option DS) (w : Nat → Int32) : Int32 := match o with | none => -104 | some s => nI s.2.1 - manyR w
def pcv (P : Nat → Int32) (x q : Nat) : Int32 := if q = 0 then nI x else if q = 1 then P (7 * x + 6) else P (7 * x + q - 2)
def pieceR (o : Option DS) (i q : Int32) : Int32 := if (decide (0 ≤ i) && inR q 0 7) = true then (match o with | none => -104 | some s => if s.2.2.2.2 ≤ i.toNatClampNeg then -106 else pcv s.1 (s.2.2.2.1 i.toNatClampNeg) q.toNatClampNeg) else -102
def lastR (o : Option DS) (u v s : Int32) : Int32 := if ptR u v s = true then (match o with | none => -104 | some t => la (fun k => hitR t.1 (7 * t.2.2.2.1 k) u v s) (-106) t.2.2.2.2) else -102
def rX1_pieces : Room := { frames := 9, cells := 0, slots := 0, locals := 199 }
theorem k_X1_pieces : CV yX1_pieces cX1_pieces 1 (some .int) 0 := ⟨q1877, q1878, q81, q1879, by decide +kernel, by decide +kernel, by decide +kernel⟩
set_option maxHeartbeats 400000 in
theorem c_X1_pieces (l : Launch) (D : DD) (b : Nat) {h : Nat} {ad : Nat → Nat} {σ0 : Hp} {F : Nat → Int32} {A : Nat → Nat → Int32} {σ : Hp} (hM : MW D h ad σ0 F A σ) (d : Nat → Bool) (hd : A 14 = fun x => bI (d x)) : CM l yX1_pieces cX1_pieces 1 (some .int) rX1_pieces D b [.ref h] σ (PI (fun r σ' => r = pcsR (dO (A 0) (A 10) d) ∧ ∃ (F' : Nat → Int32) (A' : Nat → Nat → Int32) (d' : Nat → Bool), sameF [11, 13, 16, 17, 18] F F' ∧ sameA [10, 12, 14, 15] A A' ∧ (A' 14 = fun x => bI (d' x)) ∧ MW D h ad σ0 F' A' σ')) := by
  refine CM_of [some (.ref h)] RX1 (by decide) rfl (cat_all rfl) (Nat.le_of_ble_eq_true rfl) rfl ?_
  intro z hz hR hnm
  refine g_aload_n rfl ld_0 1 rfl dX1_pieces_0 ?_
  refine g_callV (As := []) (rest := []) (ci := 1) (v_X1_draws z.l D b hM (w0 := A 0) rfl (w10 := A 10) rfl d hd) k_X1_draws q1880 hM.1 rfl rfl rfl rfl (Nat.le_of_ble_eq_true rfl) ⟨Nat.le_of_ble_eq_true rfl, Nat.le_of_ble_eq_true rfl⟩ 0 0 (Nat.le_of_ble_eq_true rfl) (Nat.le_of_ble_eq_true rfl) (Nat.le_of_ble_eq_true rfl) (Nat.le_of_ble_eq_true rfl) 4 rfl dX1_pieces_1 (fun v σ1 hq => ?_)
  obtain ⟨_, rfl, P, pm, d', dl, dm, s12, s15, f16, hsz, hdmle, hdl, hM, hq⟩ := hq
  revert σ1
  intro σ hM
  rcases hq with ⟨rfl, e8⟩ | ⟨rfl, e8⟩
  · refine g_if_eq 14 7 rfl (by decide) dX1_pieces_4 (fun cz => absurd cz (by decide)) (fun cz => ?_)
    refine g_aload_n rfl ld_0 8 rfl dX1_pieces_7 ?_
    have g9 : (upd (upd (upd F 11 (nI pm)) 13 (nI dm)) 16 f16) 11 = nI pm := (Eq.trans (upd_n (by decide)) (Eq.trans (upd_n (by decide)) (upd_s _ _ _)))
    refine g_getf (kf := 11) (v := .int (nI pm)) hM.1 (mfs_get (by decide) g9) rfl in_X1 (by decide) q1672 rfl 11 rfl dX1_pieces_8 ?_
    refine g_goto 16 (by decide) dX1_pieces_11 ?_
    exact g_iret hR rfl (Nat.le_of_ble_eq_true rfl) (Nat.le_of_ble_eq_true rfl) ⟨_, rfl, by rw [dO, e8]; rfl, _, _, d', (sF_upd (sF_upd (sF_upd (sF_refl _ _) (by decide) _) (by decide) _) (by decide) _), (sA_upd (sA_upd (sA_upd (sA_upd (sA_refl _ _) (by decide) _) (by decide) _) (by decide) _) (by decide) _), rfl, hM⟩ dX1_pieces_16
  · refine g_if_eq 14 7 rfl (by decide) dX1_pieces_4 (fun cz => ?_) (fun cz => absurd cz (by decide))
    refine g_bipush (v := -104) (by decide) 16 rfl dX1_pieces_14 ?_
    exact g_iret hR rfl (Nat.le_of_ble_eq_true rfl) (Nat.le_of_ble_eq_true rfl) ⟨_, rfl, by rw [dO, e8]; rfl, _, _, d', (sF_upd (sF_upd (sF_upd (sF_refl _ _) (by decide) _) (by decide) _) (by decide) _), (sA_upd (sA_upd (sA_upd (sA_upd (sA_refl _ _) (by decide) _) (by decide) _) (by decide) _) (by decide) _), rfl, hM⟩ dX1_pieces_16
theorem v_X1_pieces (l : Launch) (D : DD) (b : Nat) {h : Nat} {ad : Nat → Nat} {σ0 : Hp} {F : Nat → Int32} {A : Nat → Nat → Int32} {σ : Hp} (hM : MW D h ad σ0 F A σ) {w0 : Nat → Int32} (hw0 : A 0 = w0) {w10 : Nat → Int32} (hw10 : A 10 = w10) (d : Nat → Bool) (hd : A 14 = fun x => bI (d x)) : CM l yX1_pieces cX1_pieces 1 (some .int) rX1_pieces D b [.ref h] σ (PI (fun r σ' => r = pcsR (dO (w0) (w10) d) ∧ ∃ (F' : Nat → Int32) (A' : Nat → Nat → Int32) (d' : Nat → Bool), sameF [11, 13, 16, 17, 18] F F' ∧ sameA [10, 12, 14, 15] A A' ∧ (A' 14 = fun x => bI (d' x)) ∧ MW D h ad σ0 F' A' σ')) := by
  subst hw0
  subst hw10
  exact c_X1_pieces l D b hM d hd
def rX1_cuts : Room := { frames := 9, cells := 0, slots := 0, locals := 199 }
theorem k_X1_cuts : CV yX1_cuts cX1_cuts 1 (some .int) 0 := ⟨q1917, q1918, q81, q1919, by decide +kernel, by decide +kernel, by decide +kernel⟩
set_option maxHeartbeats 400000 in
theorem c_X1_cuts (l : Launch) (D : DD) (b : Nat) {h : Nat} {ad : Nat → Nat} {σ0 : Hp} {F : Nat → Int32} {A : Nat → Nat → Int32} {σ : Hp} (hM : MW D h ad σ0 F A σ) (d : Nat → Bool) (hd : A 14 = fun x => bI (d x)) : CM l yX1_cuts cX1_cuts 1 (some .int) rX1_cuts D b [.ref h] σ (PI (fun r σ' => r = cutsR (dO (A 0) (A 10) d) (A 0) ∧ ∃ (F' : Nat → Int32) (A' : Nat → Nat → Int32) (d' : Nat → Bool), sameF [11, 13, 16, 17, 18] F F' ∧ sameA [10, 12, 14, 15] A A' ∧ (A' 14 = fun x => bI (d' x)) ∧ MW D h ad σ0 F' A' σ')) := by
  refine CM_of [some (.ref h)] RX1 (by decide) rfl (cat_all rfl) (Nat.le_of_ble_eq_true rfl) rfl ?_
  intro z hz hR hnm
  refine g_aload_n rfl ld_0 1 rfl dX1_cuts_0 ?_
  refine g_callV (As := []) (rest := []) (ci := 1) (v_X1_draws z.l D b hM (w0 := A 0) rfl (w10 := A 10) rfl d hd) k_X1_draws q1880 hM.1 rfl rfl rfl rfl (Nat.le_of_ble_eq_true rfl) ⟨Nat.le_of_ble_eq_true rfl, Nat.le_of_ble_eq_true rfl⟩ 0 0 (Nat.le_of_ble_eq_true rfl) (Nat.le_of_ble_eq_true rfl) (Nat.le_of_ble_eq_true rfl) (Nat.le_of_ble_eq_true rfl) 4 rfl dX1_cuts_1 (fun v σ1 hq => ?_)
  obtain ⟨_, rfl, P, pm, d', dl, dm, s12, s15, f16, hsz, hdmle, hdl, hM, hq⟩ := hq
  revert σ1
  intro σ hM
  rcases hq with ⟨rfl, e8⟩ | ⟨rfl, e8⟩
  · refine g_if_eq 19 7 rfl (by decide) dX1_cuts_4 (fun cz => absurd cz (by decide)) (fun cz => ?_)
    refine g_aload_n rfl ld_0 8 rfl dX1_cuts_7 ?_
    have g9 : (upd (upd (upd F 11 (nI pm)) 13 (nI dm)) 16 f16) 11 = nI pm := (Eq.trans (upd_n (by decide)) (Eq.trans (upd_n (by decide)) (upd_s _ _ _)))
    refine g_getf (kf := 11) (v := .int (nI pm)) hM.1 (mfs_get (by decide) g9) rfl in_X1 (by decide) q1672 rfl 11 rfl dX1_cuts_8 ?_
    refine g_aload_n rfl ld_0 12 rfl dX1_cuts_11 ?_
    refine g_callV (As := []) (rest := [.int (nI pm)]) (ci := 1) (v_X1_boxes z.l D b hM (w0 := A 0) rfl ) k_X1_boxes q1785 hM.1 rfl rfl rfl rfl (Nat.le_of_ble_eq_true rfl) ⟨Nat.le_of_ble_eq_true rfl, Nat.le_of_ble_eq_true rfl⟩ 0 0 (Nat.le_of_ble_eq_true rfl) (Nat.le_of_ble_eq_true rfl) (Nat.le_of_ble_eq_true rfl) (Nat.le_of_ble_eq_true rfl) 15 rfl dX1_cuts_12 (fun v σ1 hq => ?_)
    obtain ⟨rfl, rfl⟩ := hq
    refine g_isub 16 rfl dX1_cuts_15 ?_
    refine g_goto 21 (by decide) dX1_cuts_16 ?_
    exact g_iret hR rfl (Nat.le_of_ble_eq_true rfl) (Nat.le_of_ble_eq_true rfl) ⟨_, rfl, by rw [dO, e8]; rfl, _, _, d', (sF_upd (sF_upd (sF_upd (sF_refl _ _) (by decide) _) (by decide) _) (by decide) _), (sA_upd (sA_upd (sA_upd (sA_upd (sA_refl _ _) (by decide) _) (by decide) _) (by decide) _) (by decide) _), rfl, hM⟩ dX1_cuts_21
  · refine g_if_eq 19 7 rfl (by decide) dX1_cuts_4 (fun cz => ?_) (fun cz => absurd cz (by decide))
    refine g_bipush (v := -104) (by decide) 21 rfl dX1_cuts_19 ?_
    exact g_iret hR rfl (Nat.le_of_ble_eq_true rfl) (Nat.le_of_ble_eq_true rfl) ⟨_, rfl, by rw [dO, e8]; rfl, _, _, d', (sF_upd (sF_upd (sF_upd (sF_refl _ _) (by decide) _) (by decide) _) (by decide) _), (sA_upd (sA_upd (sA_upd (sA_upd (sA_refl _ _) (by decide) _) (by decide) _) (by decide) _) (by decide) _), rfl, hM⟩ dX1_cuts_21
theorem v_X1_cuts (l : Launch) (D : DD) (b : Nat) {h : Nat} {ad : Nat → Nat} {σ0 : Hp} {F : Nat → Int32} {A : Nat → Nat → Int32} {σ : Hp} (hM : MW D h ad σ0 F A σ) {w0 : Nat → Int32} (hw0 : A 0 = w0) {w10 : Nat → Int32} (hw10 : A 10 = w10) (d : Nat → Bool) (hd : A 14 = fun x => bI (d x)) : CM l yX1_cuts cX1_cuts 1 (some .int) rX1_cuts D b [.ref h] σ (PI (fun r σ' => r = cutsR (dO (w0) (w10) d) (w0) ∧ ∃ (F' : Nat → Int32) (A' : Nat → Nat → Int32) (d' : Nat → Bool), sameF [11, 13, 16, 17, 18] F F' ∧ sameA [10, 12, 14, 15] A A' ∧ (A' 14 = fun x => bI (d' x)) ∧ MW D h ad σ0 F' A' σ')) := by
  subst hw0
  subst hw10
  exact c_X1_cuts l D b hM d hd
def rX1_piece : Room := { frames := 9, cells := 0, slots := 0, locals := 199 }
theorem k_X1_piece : CV yX1_piece cX1_piece 4 (some .int) 2 := ⟨q1921, q1922, q81, q1923, by decide +kernel, by decide +kernel, by decide +kernel⟩
set_option maxHeartbeats 400000 in
theorem c_X1_piece (l : Launch) (D : DD) (b : Nat) {h : Nat} {ad : Nat → Nat} {σ0 : Hp} {F : Nat → Int32} {A : Nat → Nat → Int32} {σ : Hp} (hM : MW D h ad σ0 F A σ) (d : Nat → Bool) (hd : A 14 = fun x => bI (d x)) (i0 q0 : Int32) : CM l yX1_piece cX1_piece 4 (some .int) rX1_piece D b [.ref h, .int i0, .int q0] σ (PI (fun r σ' => r = pieceR (dO (A 0) (A 10) d) i0 q0 ∧ ∃ (F' : Nat → Int32) (A' : Nat → Nat → Int32) (d' : Nat → Bool), sameF [11, 13, 16, 17, 18] F F' ∧ sameA [10, 12, 14, 15] A A' ∧ (A' 14 = fun x => bI (d' x)) ∧ MW D h ad σ0 F' A' σ')) := by
  refine CM_of [some (.ref h), some (.int i0), some (.int q0), none] RX1 (by decide) rfl (cat_all rfl) (Nat.le_of_ble_eq_true rfl) rfl ?_
  intro z hz hR hnm
  refine g_iload_n rfl ld_1 1 rfl dX1_piece_0 ?_
  refine g_if_lt 14 4 rfl (by decide) dX1_piece_1 (fun c1 => ?_) (fun c1 => ?_)
  · refine g_bipush (v := -102) (by decide) 16 rfl dX1_piece_14 ?_
    exact g_iret hR rfl (Nat.le_of_ble_eq_true rfl) (Nat.le_of_ble_eq_true rfl) ⟨_, rfl, by unfold pieceR; rw [if_neg (by rw [Bool.and_eq_true, decide_eq_true_eq, ← Int32.not_lt]; rintro ⟨e1, e2⟩; first | exact e1 c1 | (rw [c11] at e2; cases e2))], _, _, d, (sF_refl _ _), (sA_refl _ _), hd, hM⟩ dX1_piece_16
  · refine g_iload_n rfl ld_2 5 rfl dX1_piece_4 ?_
    refine g_iconst (v := 0) (by decide) 6 rfl dX1_piece_5 ?_
    refine g_bipush (v := 7) (by decide) 8 rfl dX1_piece_6 ?_
    refine g_callS (As := [.int q0, .int ((0 : Int32)), .int ((7 : Int32))]) (rest := []) (c_X1_isIn z.l D b (σ := σ) q0 ((0 : Int32)) ((7 : Int32))) k_X1_isIn q1763 rfl rfl (Nat.le_of_ble_eq_true rfl) ⟨Nat.le_of_ble_eq_true rfl, Nat.le_of_ble_eq_true rfl⟩ 0 0 (Nat.le_of_ble_eq_true rfl) (Nat.le_of_ble_eq_true rfl) (Nat.le_of_ble_eq_true rfl) (Nat.le_of_ble_eq_true rfl) 11 rfl dX1_piece_8 (fun v σ1 hq => ?_)
    obtain ⟨rfl, rfl⟩ := hq
    refine g_if_neB 17 14 rfl (by decide) dX1_piece_11 (fun c11 => ?_) (fun c11 => ?_)
    · obtain ⟨q, hq7, rfl⟩ := inR_nat (N := 7) c11 (by decide)
      have hclq := nI_clamp (show q < 2 ^ 31 by omega)
      obtain ⟨i, hi31, rfl⟩ := nn_nat c1
      have hcli := nI_clamp hi31
      refine g_aload_n rfl ld_0 18 rfl dX1_piece_17 ?_
      refine g_callV (As := []) (rest := []) (ci := 1) (v_X1_draws z.l D b hM (w0 := A 0) rfl (w10 := A 10) rfl d hd) k_X1_draws q1880 hM.1 rfl rfl rfl rfl (Nat.le_of_ble_eq_true rfl) ⟨Nat.le_of_ble_eq_true rfl, Nat.le_of_ble_eq_true rfl⟩ 0 0 (Nat.le_of_ble_eq_true rfl) (Nat.le_of_ble_eq_true rfl) (Nat.le_of_ble_eq_true rfl) (Nat.le_of_ble_eq_true rfl) 21 rfl dX1_piece_18 (fun v σ1 hq => ?_)
      obtain ⟨_, rfl, P, pm, d', dl, dm, s12, s15, f16, hsz, hdmle, hdl, hM, hq⟩ := hq
      revert σ1
      intro σ hM
      rcases hq with ⟨rfl, e8⟩ | ⟨rfl, e8⟩
      · refine g_if_ne 27 24 rfl (by decide) dX1_piece_21 (fun cz => ?_) (fun cz => absurd cz (by decide))
        refine g_iload_n rfl ld_1 28 rfl dX1_piece_27 ?_
        refine g_aload_n rfl ld_0 29 rfl dX1_piece_28 ?_
        have g9 : (upd (upd (upd F 11 (nI pm)) 13 (nI dm)) 16 f16) 13 = nI dm := (Eq.trans (upd_n (by decide)) (upd_s _ _ _))
        refine g_getf (kf := 13) (v := .int (nI dm)) hM.1 (mfs_get (by decide) g9) rfl in_X1 (by decide) q1674 rfl 32 rfl dX1_piece_29 ?_
        refine g_icmp_ltN (a := i) (c := dm) rfl rfl (by omega) (by omega) 38 35 rfl (by decide) dX1_piece_32 (fun c32 => ?_) (fun c32 => ?_)
        · have hdk := hdl i (by omega)
          refine g_aload_n rfl ld_0 39 rfl dX1_piece_38 ?_
          refine g_getf (kf := 12) (v := .ref (ad 12)) hM.1 rfl rfl in_X1 (by decide) q1673 rfl 42 rfl dX1_piece_39 ?_
          refine g_iload_n rfl ld_1 43 rfl dX1_piece_42 ?_
          refine g_ialdE (j := i) (f := emb dm dl s12) (v := nI (dl i)) hM.a12 rfl (by omega) (by decide) (emb_at (by omega)) 44 rfl dX1_piece_43 ?_
          refine g_istore_n rfl sa_3 45 rfl dX1_piece_44 ?_
          refine g_iload_n rfl ld_2 46 rfl dX1_piece_45 ?_
          refine g_if_neN (a := q) rfl (by omega) 53 49 rfl (by decide) dX1_piece_46 (fun c46 => ?_) (fun c46 => ?_)
          · refine g_iload_n rfl ld_2 54 rfl dX1_piece_53 ?_
            refine g_iconst (v := 1) (by decide) 55 rfl dX1_piece_54 ?_
            refine g_icmp_neN (a := q) (c := 1) rfl (show (1 : Int32) = nI 1 from rfl) (by omega) (by omega) 73 58 rfl (by decide) dX1_piece_55 (fun c55 => ?_) (fun c55 => ?_)
            · refine g_aload_n rfl ld_0 74 rfl dX1_piece_73 ?_
              refine g_getf (kf := 10) (v := .ref (ad 10)) hM.1 rfl rfl in_X1 (by decide) q1671 rfl 77 rfl dX1_piece_74 ?_
              refine g_bipush (v := 7) (by decide) 79 rfl dX1_piece_77 ?_
              refine g_iload_n rfl ld_3 80 rfl dX1_piece_79 ?_
              refine g_imulN (a := 7) (c := (dl i)) (show (7 : Int32) = nI 7 from rfl) rfl 81 rfl dX1_piece_80 ?_
              refine g_iload_n rfl ld_2 82 rfl dX1_piece_81 ?_
              refine g_iaddN (a := (7 * (dl i))) (c := q) rfl rfl 83 rfl dX1_piece_82 ?_
              refine g_iconst (v := 2) (by decide) 84 rfl dX1_piece_83 ?_
              refine g_isubN (a := ((7 * (dl i)) + q)) (c := 2) rfl (show (2 : Int32) = nI 2 from rfl) (by omega) 85 rfl dX1_piece_84 ?_
              refine g_iald (j := (((7 * (dl i)) + q) - 2)) (f := P) hM.a10 rfl (by omega) (by decide) 86 rfl dX1_piece_85 ?_
              exact g_iret hR rfl (Nat.le_of_ble_eq_true rfl) (Nat.le_of_ble_eq_true rfl) ⟨_, rfl, by symm; unfold pieceR; rw [if_pos (by rw [c11, Bool.and_true, decide_eq_true_eq, ← Int32.not_lt]; exact c1), dO, e8]; show (if dm ≤ (nI i).toNatClampNeg then _ else pcv P (dl (nI i).toNatClampNeg) (nI q).toNatClampNeg) = _; rw [hcli, hclq, if_neg (by omega)]; simp [pcv, *], _, _, d', (sF_upd (sF_upd (sF_upd (sF_refl _ _) (by decide) _) (by decide) _) (by decide) _), (sA_upd (sA_upd (sA_upd (sA_upd (sA_refl _ _) (by decide) _) (by decide) _) (by decide) _) (by decide) _), rfl, hM⟩ dX1_piece_86
            · refine g_aload_n rfl ld_0 59 rfl dX1_piece_58 ?_
              refine g_getf (kf := 10) (v := .ref (ad 10)) hM.1 rfl rfl in_X1 (by decide) q1671 rfl 62 rfl dX1_piece_59 ?_
              refine g_bipush (v := 7) (by decide) 64 rfl dX1_piece_62 ?_
              refine g_iload_n rfl ld_3 65 rfl dX1_piece_64 ?_
              refine g_imulN (a := 7) (c := (dl i)) (show (7 : Int32) = nI 7 from rfl) rfl 66 rfl dX1_piece_65 ?_
              refine g_bipush (v := 6) (by decide) 68 rfl dX1_piece_66 ?_
              refine g_iaddN (a := (7 * (dl i))) (c := 6) rfl (show (6 : Int32) = nI 6 from rfl) 69 rfl dX1_piece_68 ?_
              refine g_iald (j := ((7 * (dl i)) + 6)) (f := P) hM.a10 rfl (by omega) (by decide) 70 rfl dX1_piece_69 ?_
              refine g_goto 86 (by decide) dX1_piece_70 ?_
              exact g_iret hR rfl (Nat.le_of_ble_eq_true rfl) (Nat.le_of_ble_eq_true rfl) ⟨_, rfl, by symm; unfold pieceR; rw [if_pos (by rw [c11, Bool.and_true, decide_eq_true_eq, ← Int32.not_lt]; exact c1), dO, e8]; show (if dm ≤ (nI i).toNatClampNeg then _ else pcv P (dl (nI i).toNatClampNeg) (nI q).toNatClampNeg) = _; rw [hcli, hclq, if_neg (by omega)]; simp [pcv, *], _, _, d', (sF_upd (sF_upd (sF_upd (sF_refl _ _) (by decide) _) (by decide) _) (by decide) _), (sA_upd (sA_upd (sA_upd (sA_upd (sA_refl _ _) (by decide) _) (by decide) _) (by decide) _) (by decide) _), rfl, hM⟩ dX1_piece_86
          · refine g_iload_n rfl ld_3 50 rfl dX1_piece_49 ?_
            refine g_goto 86 (by decide) dX1_piece_50 ?_
            exact g_iret hR rfl (Nat.le_of_ble_eq_true rfl) (Nat.le_of_ble_eq_true rfl) ⟨_, rfl, by symm; unfold pieceR; rw [if_pos (by rw [c11, Bool.and_true, decide_eq_true_eq, ← Int32.not_lt]; exact c1), dO, e8]; show (if dm ≤ (nI i).toNatClampNeg then _ else pcv P (dl (nI i).toNatClampNeg) (nI q).toNatClampNeg) = _; rw [hcli, hclq, if_neg (by omega)]; simp [pcv, *], _, _, d', (sF_upd (sF_upd (sF_upd (sF_refl _ _) (by decide) _) (by decide) _) (by decide) _), (sA_upd (sA_upd (sA_upd (sA_upd (sA_refl _ _) (by decide) _) (by decide) _) (by decide) _) (by decide) _), rfl, hM⟩ dX1_piece_86
        · refine g_bipush (v := -106) (by decide) 37 rfl dX1_piece_35 ?_
          exact g_iret hR rfl (Nat.le_of_ble_eq_true rfl) (Nat.le_of_ble_eq_true rfl) ⟨_, rfl, by symm; unfold pieceR; rw [if_pos (by rw [c11, Bool.and_true, decide_eq_true_eq, ← Int32.not_lt]; exact c1), dO, e8]; show (if dm ≤ (nI i).toNatClampNeg then _ else pcv P (dl (nI i).toNatClampNeg) (nI q).toNatClampNeg) = _; rw [hcli, hclq, if_pos (by omega)], _, _, d', (sF_upd (sF_upd (sF_upd (sF_refl _ _) (by decide) _) (by decide) _) (by decide) _), (sA_upd (sA_upd (sA_upd (sA_upd (sA_refl _ _) (by decide) _) (by decide) _) (by decide) _) (by decide) _), rfl, hM⟩ dX1_piece_37
      · refine g_if_ne 27 24 rfl (by decide) dX1_piece_21 (fun cz => absurd cz (by decide)) (fun cz => ?_)
        refine g_bipush (v := -104) (by decide) 26 rfl dX1_piece_24 ?_
        exact g_iret hR rfl (Nat.le_of_ble_eq_true rfl) (Nat.le_of_ble_eq_true rfl) ⟨_, rfl, by unfold pieceR; rw [if_pos (by rw [c11, Bool.and_true, decide_eq_true_eq, ← Int32.not_lt]; exact c1), dO, e8], _, _, d', (sF_upd (sF_upd (sF_upd (sF_refl _ _) (by decide) _) (by decide) _) (by decide) _), (sA_upd (sA_upd (sA_upd (sA_upd (sA_refl _ _) (by decide) _) (by decide) _) (by decide) _) (by decide) _), rfl, hM⟩ dX1_piece_26
    · refine g_bipush (v := -102) (by decide) 16 rfl dX1_piece_14 ?_
      exact g_iret hR rfl (Nat.le_of_ble_eq_true rfl) (Nat.le_of_ble_eq_true rfl) ⟨_, rfl, by unfold pieceR; rw [if_neg (by rw [Bool.and_eq_true, decide_eq_true_eq, ← Int32.not_lt]; rintro ⟨e1, e2⟩; first | exact e1 c1 | (rw [c11] at e2; cases e2))], _, _, d, (sF_refl _ _), (sA_refl _ _), hd, hM⟩ dX1_piece_16
theorem v_X1_piece (l : Launch) (D : DD) (b : Nat) {h : Nat} {ad : Nat → Nat} {σ0 : Hp} {F : Nat → Int32} {A : Nat → Nat → Int32} {σ : Hp} (hM : MW D h ad σ0 F A σ) {w0 : Nat → Int32} (hw0 : A 0 = w0) {w10 : Nat → Int32} (hw10 : A 10 = w10) (d : Nat → Bool) (hd : A 14 = fun x => bI (d x)) (i0 q0 : Int32) : CM l yX1_piece cX1_piece 4 (some .int) rX1_piece D b [.ref h, .int i0, .int q0] σ (PI (fun r σ' => r = pieceR (dO (w0) (w10) d) i0 q0 ∧ ∃ (F' : Nat → Int32) (A' : Nat → Nat → Int32) (d' : Nat → Bool), sameF [11, 13, 16, 17, 18] F F' ∧ sameA [10, 12, 14, 15] A A' ∧ (A' 14 = fun x => bI (d' x)) ∧ MW D h ad σ0 F' A' σ')) := by
  subst hw0
  subst hw10
  exact c_X1_piece l D b hM d hd i0 q0
def rX1_drawnLast : Room := { frames := 9, cells := 0, slots := 0, locals := 199 }
theorem k_X1_drawnLast : CV yX1_drawnLast cX1_drawnLast 6 (some .int) 3 := ⟨q1925, q1926, q81, q1927, by decide +kernel, by decide +kernel, by decide +kernel⟩
set_option maxHeartbeats 1000000 in
theorem c_X1_drawnLast (l : Launch) (D : DD) (b : Nat) {h : Nat} {ad : Nat → Nat} {σ0 : Hp} {F : Nat → Int32} {A : Nat → Nat → Int32} {σ : Hp} (hM : MW D h ad σ0 F A σ) (d : Nat → Bool) (hd : A 14 = fun x => bI (d x)) (u v s : Int32) : CM l yX1_drawnLast cX1_drawnLast 6 (some .int) rX1_drawnLast D b [.ref h, .int u, .int v, .int s] σ (PI (fun r σ' => r = lastR (dO (A 0) (A 10) d) u v s ∧ ∃ (F' : Nat → Int32) (A' : Nat → Nat → Int32) (d' : Nat → Bool), sameF [11, 13, 16, 17, 18] F F' ∧ sameA [10, 12, 14, 15] A A' ∧ (A' 14 = fun x => bI (d' x)) ∧ MW D h ad σ0 F' A' σ')) := by
  refine CM_of [some (.ref h), some (.int u), some (.int v), some (.int s), none, none] RX1 (by decide) rfl (cat_all rfl) (Nat.le_of_ble_eq_true rfl) rfl ?_
  intro z hz hR hnm
  refine g_iload_n rfl ld_1 1 rfl dX1_drawnLast_0 ?_
  refine g_iload_n rfl ld_2 2 rfl dX1_drawnLast_1 ?_
  refine g_iload_n rfl ld_3 3 rfl dX1_drawnLast_2 ?_
  refine g_callS (As := [.int u, .int v, .int s]) (rest := []) (c_X1_isPoint z.l D b (σ := σ) u v s) k_X1_isPoint q1928 rfl rfl (Nat.le_of_ble_eq_true rfl) ⟨Nat.le_of_ble_eq_true rfl, Nat.le_of_ble_eq_true rfl⟩ 0 0 (Nat.le_of_ble_eq_true rfl) (Nat.le_of_ble_eq_true rfl) (Nat.le_of_ble_eq_true rfl) (Nat.le_of_ble_eq_true rfl) 6 rfl dX1_drawnLast_3 (fun v σ1 hq => ?_)
  obtain ⟨rfl, rfl⟩ := hq
  refine g_if_neB 12 9 rfl (by decide) dX1_drawnLast_6 (fun c6 => ?_) (fun c6 => ?_)
  · refine g_aload_n rfl ld_0 13 rfl dX1_drawnLast_12 ?_
    refine g_callV (As := []) (rest := []) (ci := 1) (v_X1_draws z.l D b hM (w0 := A 0) rfl (w10 := A 10) rfl d hd) k_X1_draws q1880 hM.1 rfl rfl rfl rfl (Nat.le_of_ble_eq_true rfl) ⟨Nat.le_of_ble_eq_true rfl, Nat.le_of_ble_eq_true rfl⟩ 0 0 (Nat.le_of_ble_eq_true rfl) (Nat.le_of_ble_eq_true rfl) (Nat.le_of_ble_eq_true rfl) (Nat.le_of_ble_eq_true rfl) 16 rfl dX1_drawnLast_13 (fun v σ1 hq => ?_)
    obtain ⟨_, rfl, P, pm, d', dl, dm, s12, s15, f16, hsz, hdmle, hdl, hM, hq⟩ := hq
    revert σ1
    intro σ hM
    rcases hq with ⟨rfl, e8⟩ | ⟨rfl, e8⟩
    · refine g_if_ne 22 19 rfl (by decide) dX1_drawnLast_16 (fun cz => ?_) (fun cz => absurd cz (by decide))
      refine g_bipush (v := -106) (by decide) 24 rfl dX1_drawnLast_22 ?_
      refine g_istore sa_4 26 rfl dX1_drawnLast_24 ?_
      refine g_iconst (v := 0) (by decide) 27 rfl dX1_drawnLast_26 ?_
      refine g_istore sa_5 29 rfl dX1_drawnLast_27 ?_
      have lp29 : ∀ (fu i : Nat) (f17 f18 : Int32) (x4 : Int32) (σ : Hp), i ≤ dm → dm + 1 ≤ i + fu → (x4 = la (fun k => hitR P (7 * dl k) u v s) (-106) i) → MW D h ad σ0 (upd (upd (upd (upd (upd F 11 (nI pm)) 13 (nI dm)) 16 f16) 17 f17) 18 f18) (uA (uA (uA (uA A 10 P) 14 (fun x => bI (d' x))) 12 (emb dm dl s12)) 15 s15) σ → G z cX1_drawnLast RX1 6 rX1_drawnLast D b σ 0 0 29 [some (.ref h), some (.int u), some (.int v), some (.int s), some (.int x4), some (.int (nI i))] [] := by
        intro fu
        induction fu with
        | zero => intros; omega
        | succ fu ih29 =>
          intro i f17 f18 x4 σ hi hf hx hM
          refine g_iload ld_5 31 rfl dX1_drawnLast_29 ?_
          refine g_aload_n rfl ld_0 32 rfl dX1_drawnLast_31 ?_
          have g9 : (upd (upd (upd (upd (upd F 11 (nI pm)) 13 (nI dm)) 16 f16) 17 f17) 18 f18) 13 = nI dm := (Eq.trans (upd_n (by decide)) (Eq.trans (upd_n (by decide)) (Eq.trans (upd_n (by decide)) (upd_s _ _ _))))
          refine g_getf (kf := 13) (v := .int (nI dm)) hM.1 (mfs_get (by decide) g9) rfl in_X1 (by decide) q1674 rfl 35 rfl dX1_drawnLast_32 ?_
          refine g_icmp_geN (a := i) (c := dm) rfl rfl (by omega) (by omega) 77 38 rfl (by decide) dX1_drawnLast_35 (fun c35 => ?_) (fun c35 => ?_)
          · obtain rfl : i = dm := by omega
            refine g_iload ld_4 79 rfl dX1_drawnLast_77 ?_
            exact g_iret hR rfl (Nat.le_of_ble_eq_true rfl) (Nat.le_of_ble_eq_true rfl) ⟨_, rfl, by unfold lastR; rw [if_pos c6, dO, e8]; exact hx, _, _, d', (sF_upd (sF_upd (sF_upd (sF_upd (sF_upd (sF_refl _ _) (by decide) _) (by decide) _) (by decide) _) (by decide) _) (by decide) _), (sA_upd (sA_upd (sA_upd (sA_upd (sA_refl _ _) (by decide) _) (by decide) _) (by decide) _) (by decide) _), rfl, hM⟩ dX1_drawnLast_79
          · have hdk := hdl i (by omega)
            refine g_aload_n rfl ld_0 39 rfl dX1_drawnLast_38 ?_
            refine g_aload_n rfl ld_0 40 rfl dX1_drawnLast_39 ?_
            refine g_getf (kf := 10) (v := .ref (ad 10)) hM.1 rfl rfl in_X1 (by decide) q1671 rfl 43 rfl dX1_drawnLast_40 ?_
            refine g_bipush (v := 7) (by decide) 45 rfl dX1_drawnLast_43 ?_
            refine g_aload_n rfl ld_0 46 rfl dX1_drawnLast_45 ?_
            refine g_getf (kf := 12) (v := .ref (ad 12)) hM.1 rfl rfl in_X1 (by decide) q1673 rfl 49 rfl dX1_drawnLast_46 ?_
            refine g_iload ld_5 51 rfl dX1_drawnLast_49 ?_
            refine g_ialdE (j := i) (f := emb dm dl s12) (v := nI (dl i)) hM.a12 rfl (by omega) (by decide) (emb_at (by omega)) 52 rfl dX1_drawnLast_51 ?_
            refine g_imulN (a := 7) (c := (dl i)) (show (7 : Int32) = nI 7 from rfl) rfl 53 rfl dX1_drawnLast_52 ?_
            refine g_iload_n rfl ld_1 54 rfl dX1_drawnLast_53 ?_
            refine g_iload_n rfl ld_2 55 rfl dX1_drawnLast_54 ?_
            refine g_iload_n rfl ld_3 56 rfl dX1_drawnLast_55 ?_
            refine g_callV (As := [.ref (ad 10), .int (nI (7 * (dl i))), .int u, .int v, .int s]) (rest := []) (ci := 1) (c_X1_isMet z.l D b hM 10 280 (7 * (dl i)) P (by omega) rfl (by omega) u v s) k_X1_isMet q1931 hM.1 rfl rfl rfl rfl (Nat.le_of_ble_eq_true rfl) ⟨Nat.le_of_ble_eq_true rfl, Nat.le_of_ble_eq_true rfl⟩ 0 0 (Nat.le_of_ble_eq_true rfl) (Nat.le_of_ble_eq_true rfl) (Nat.le_of_ble_eq_true rfl) (Nat.le_of_ble_eq_true rfl) 59 rfl dX1_drawnLast_56 (fun v σ1 hq => ?_)
            obtain ⟨_, rfl, rfl, hM⟩ := hq
            revert σ1
            intro σ hM
            have hM : MW D h ad σ0 (upd (upd (upd (upd (upd F 11 (nI pm)) 13 (nI dm)) 16 f16) 18 (nI (sfR P (7 * (dl i)) u v s))) 17 (farR P (7 * (dl i)) u v s)) (uA (uA (uA (uA A 10 P) 14 (fun x => bI (d' x))) 12 (emb dm dl s12)) 15 s15) σ := by
              have e9 : upd (upd (upd (upd (upd F 11 (nI pm)) 13 (nI dm)) 16 f16) 18 (nI (sfR P (7 * (dl i)) u v s))) 17 (farR P (7 * (dl i)) u v s) = upd (upd (upd (upd (upd (upd (upd F 11 (nI pm)) 13 (nI dm)) 16 f16) 17 f17) 18 f18) 18 (nI (sfR P (7 * (dl i)) u v s))) 17 (farR P (7 * (dl i)) u v s) := by funext x9; by_cases h9_11 : x9 = 11; (subst h9_11; simp [upd_ap]); by_cases h9_13 : x9 = 13; (subst h9_13; simp [upd_ap]); by_cases h9_16 : x9 = 16; (subst h9_16; simp [upd_ap]); by_cases h9_17 : x9 = 17; (subst h9_17; simp [upd_ap]); by_cases h9_18 : x9 = 18; (subst h9_18; simp [upd_ap]); simp [upd_ap, h9_11, h9_13, h9_16, h9_17, h9_18]
              rw [e9]; exact hM
            have j69 : ∀ y : Int32, y = la (fun k => hitR P (7 * dl k) u v s) (-106) (i + 1) → G z cX1_drawnLast RX1 6 rX1_drawnLast D b σ 0 0 69 [some (.ref h), some (.int u), some (.int v), some (.int s), some (.int x4), some (.int (nI i))] [.int y] := by
              intro y hy
              refine g_istore sa_4 71 rfl dX1_drawnLast_69 ?_
              refine g_iinc (v := nI (i + 1)) ld_5 (nI_1 _) sa_5 74 rfl dX1_drawnLast_71 ?_
              refine g_goto 29 (by decide) dX1_drawnLast_74 ?_
              have hM : MW D h ad σ0 (upd (upd (upd (upd (upd F 11 (nI pm)) 13 (nI dm)) 16 f16) 17 ((farR P (7 * (dl i)) u v s))) 18 ((nI (sfR P (7 * (dl i)) u v s)))) (uA (uA (uA (uA A 10 P) 14 (fun x => bI (d' x))) 12 (emb dm dl s12)) 15 s15) σ := by
                have e1 : upd (upd (upd (upd (upd F 11 (nI pm)) 13 (nI dm)) 16 f16) 17 ((farR P (7 * (dl i)) u v s))) 18 ((nI (sfR P (7 * (dl i)) u v s))) = upd (upd (upd (upd (upd F 11 (nI pm)) 13 (nI dm)) 16 f16) 18 (nI (sfR P (7 * (dl i)) u v s))) 17 (farR P (7 * (dl i)) u v s) := by funext x9; by_cases h9_11 : x9 = 11; (subst h9_11; simp [upd_ap]); by_cases h9_13 : x9 = 13; (subst h9_13; simp [upd_ap]); by_cases h9_16 : x9 = 16; (subst h9_16; simp [upd_ap]); by_cases h9_17 : x9 = 17; (subst h9_17; simp [upd_ap]); by_cases h9_18 : x9 = 18; (subst h9_18; simp [upd_ap]); simp [upd_ap, h9_11, h9_13, h9_16, h9_17, h9_18]
                rw [e1]; exact hM
              exact ih29 (i + 1) (farR P (7 * (dl i)) u v s) (nI (sfR P (7 * (dl i)) u v s)) y σ (by omega) (by omega) (by rw [hy]) hM
            refine g_if_eqB 67 62 rfl (by decide) dX1_drawnLast_59 (fun c59 => ?_) (fun c59 => ?_)
            · refine g_iload ld_4 69 rfl dX1_drawnLast_67 ?_
              exact j69 x4 (by rw [la]; simp [*])
            · refine g_iload ld_5 64 rfl dX1_drawnLast_62 ?_
              refine g_goto 69 (by decide) dX1_drawnLast_64 ?_
              exact j69 (nI i) (by rw [la]; simp [*])
      have hM : MW D h ad σ0 (upd (upd (upd (upd (upd F 11 (nI pm)) 13 (nI dm)) 16 f16) 17 ((F 17))) 18 ((F 18))) (uA (uA (uA (uA A 10 P) 14 (fun x => bI (d' x))) 12 (emb dm dl s12)) 15 s15) σ := by
        have e1 : upd (upd (upd (upd (upd F 11 (nI pm)) 13 (nI dm)) 16 f16) 17 ((F 17))) 18 ((F 18)) = upd (upd (upd F 11 (nI pm)) 13 (nI dm)) 16 f16 := by funext x9; by_cases h9_11 : x9 = 11; (subst h9_11; simp [upd_ap]); by_cases h9_13 : x9 = 13; (subst h9_13; simp [upd_ap]); by_cases h9_16 : x9 = 16; (subst h9_16; simp [upd_ap]); by_cases h9_17 : x9 = 17; (subst h9_17; simp [upd_ap]); by_cases h9_18 : x9 = 18; (subst h9_18; simp [upd_ap]); simp [upd_ap, h9_11, h9_13, h9_16, h9_17, h9_18]
        rw [e1]; exact hM
      exact lp29 (dm + 1) 0 (F 17) (F 18) ((-106 : Int32)) σ (by omega) (by omega) (rfl) hM
    · refine g_if_ne 22 19 rfl (by decide) dX1_drawnLast_16 (fun cz => absurd cz (by decide)) (fun cz => ?_)
      refine g_bipush (v := -104) (by decide) 21 rfl dX1_drawnLast_19 ?_
      exact g_iret hR rfl (Nat.le_of_ble_eq_true rfl) (Nat.le_of_ble_eq_true rfl) ⟨_, rfl, by unfold lastR; rw [if_pos c6, dO, e8], _, _, d', (sF_upd (sF_upd (sF_upd (sF_refl _ _) (by decide) _) (by decide) _) (by decide) _), (sA_upd (sA_upd (sA_upd (sA_upd (sA_refl _ _) (by decide) _) (by decide) _) (by decide) _) (by decide) _), rfl, hM⟩ dX1_drawnLast_21
  · refine g_bipush (v := -102) (by decide) 11 rfl dX1_drawnLast_9 ?_
    exact g_iret hR rfl (Nat.le_of_ble_eq_true rfl) (Nat.le_of_ble_eq_true rfl) ⟨_, rfl, by unfold lastR; rw [if_neg (by simp [c6])], _, _, d, (sF_refl _ _), (sA_refl _ _), hd, hM⟩ dX1_drawnLast_11
theorem v_X1_drawnLast (l : Launch) (D : DD) (b : Nat) {h : Nat} {ad : Nat → Nat} {σ0 : Hp} {F : Nat → Int32} {A : Nat → Nat → Int32} {σ : Hp} (hM : MW D h ad σ0 F A σ) {w0 : Nat → Int32} (hw0 : A 0 = w0) {w10 : Nat → Int32} (hw10 : A 10 = w10) (d : Nat → Bool) (hd : A 14 = fun x => bI (d x)) (u v s : Int32) : CM l yX1_drawnLast cX1_drawnLast 6 (some .int) rX1_drawnLast D b [.ref h, .int u, .int v, .int s] σ (PI (fun r σ' => r = lastR (dO (w0) (w10) d) u v s ∧ ∃ (F' : Nat → Int32) (A' : Nat → Nat → Int32) (d' : Nat → Bool), sameF [11, 13, 16, 17, 18] F F' ∧ sameA [10, 12, 14, 15] A A' ∧ (A' 14 = fun x => bI (d' x)) ∧ MW D h ad σ0 F' A' σ')) := by
  subst hw0
  subst hw10
  exact c_X1_drawnLast l D b hM d hd u v s
