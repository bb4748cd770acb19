/-! THE REFERENCE, part 3: move, push, turn, split, touching -/
set_option maxRecDepth 100000
def moT (t w : Nat → Int32) (j : Nat) (dx dy dz : Int32) : Nat → Int32 := tr6 t (w (7 * j) + dx) (w (7 * j + 1) + dy) (w (7 * j + 2) + dz) (w (7 * j + 3) + dx) (w (7 * j + 4) + dy) (w (7 * j + 5) + dz)
def moveM (F : Nat → Int32) (A : Nat → Nat → Int32) (c : Nat) (v dx dy dz : Int32) : MS :=
  if isBx (A 0) v = false then (-101, F, A)
  else if (inR dx (-32) 32 && inR dy (-32) 32 && inR dz (-32) 32) = false then (-102, F, A)
  else if possR (moT (A 7) (A 0) v.toNatClampNeg dx dy dz) = false then (-105, F, uA A 7 (moT (A 7) (A 0) v.toNatClampNeg dx dy dz))
  else if ¬ metR (moT (A 7) (A 0) v.toNatClampNeg dx dy dz) (A 0) v = -106 then (-103, F, uA A 7 (moT (A 7) (A 0) v.toNatClampNeg dx dy dz))
  else (pairsR (layW (A 0) (moT (A 7) (A 0) v.toNatClampNeg dx dy dz) v.toNatClampNeg) - pairsR (A 0), kpF F c, uA (uA (uA A 7 (moT (A 7) (A 0) v.toNatClampNeg dx dy dz)) 1 (keepP (A 1) (A 0) c)) 0 (layW (A 0) (moT (A 7) (A 0) v.toNatClampNeg dx dy dz) v.toNatClampNeg))
def rX1_move : Room := { frames := 7, cells := 0, slots := 0, locals := 155 }
theorem k_X1_move : CV yX1_move cX1_move 6 (some .int) 4 := ⟨q1790, q1791, q81, q1792, by decide +kernel, by decide +kernel, by decide +kernel⟩
set_option maxHeartbeats 1000000 in
theorem c_X1_move (l : Launch) (D : DD) (b : Nat) {h : Nat} {ad : Nat → Nat} {σ0 : Hp} {F : Nat → Int32} {A : Nat → Nat → Int32} {σ : Hp} (hM : MW D h ad σ0 F A σ) (c : Nat) (hc : F 2 = nI c) (hc8 : c ≤ 8) (v dx dy dz : Int32) : CM l yX1_move cX1_move 6 (some .int) rX1_move D b [.ref h, .int v, .int dx, .int dy, .int dz] σ (PI (fun r σ' => r = (moveM F A c v dx dy dz).1 ∧ MW D h ad σ0 (moveM F A c v dx dy dz).2.1 (moveM F A c v dx dy dz).2.2 σ')) := by
  refine CM_of [some (.ref h), some (.int v), some (.int dx), some (.int dy), some (.int dz), none] RX1 (by decide) rfl (cat_all rfl) (Nat.le_of_ble_eq_true rfl) rfl ?_
  intro z hz hR hnm
  refine g_aload_n rfl ld_0 1 rfl dX1_move_0 ?_
  refine g_iload_n rfl ld_1 2 rfl dX1_move_1 ?_
  refine g_callV (As := [.int v]) (rest := []) (ci := 1) (v_X1_isBox z.l D b hM (w0 := A 0) rfl v) k_X1_isBox q1759 hM.1 rfl rfl rfl rfl (Nat.le_of_ble_eq_true rfl) ⟨Nat.le_of_ble_eq_true rfl, Nat.le_of_ble_eq_true rfl⟩ 0 0 (Nat.le_of_ble_eq_true rfl) (Nat.le_of_ble_eq_true rfl) (Nat.le_of_ble_eq_true rfl) (Nat.le_of_ble_eq_true rfl) 5 rfl dX1_move_2 (fun v σ1 hq => ?_)
  obtain ⟨rfl, rfl⟩ := hq
  refine g_if_neB 11 8 rfl (by decide) dX1_move_5 (fun c5 => ?_) (fun c5 => ?_)
  · refine g_iload_n rfl ld_2 12 rfl dX1_move_11 ?_
    refine g_bipush (v := -32) (by decide) 14 rfl dX1_move_12 ?_
    refine g_bipush (v := 32) (by decide) 16 rfl dX1_move_14 ?_
    refine g_callS (As := [.int dx, .int ((-32 : Int32)), .int ((32 : Int32))]) (rest := []) (c_X1_isIn z.l D b (σ := σ) dx ((-32 : Int32)) ((32 : Int32))) k_X1_isIn q1763 rfl rfl (Nat.le_of_ble_eq_true rfl) ⟨Nat.le_of_ble_eq_true rfl, Nat.le_of_ble_eq_true rfl⟩ 0 0 (Nat.le_of_ble_eq_true rfl) (Nat.le_of_ble_eq_true rfl) (Nat.le_of_ble_eq_true rfl) (Nat.le_of_ble_eq_true rfl) 19 rfl dX1_move_16 (fun v σ1 hq => ?_)
    obtain ⟨rfl, rfl⟩ := hq
    refine g_if_eqB 45 22 rfl (by decide) dX1_move_19 (fun c19 => ?_) (fun c19 => ?_)
    · refine g_bipush (v := -102) (by decide) 47 rfl dX1_move_45 ?_
      have e9 : moveM F A c v dx dy dz = ((-102 : Int32), F, A) := by simp [moveM, moT, kpF, *]
      exact g_iret hR rfl (Nat.le_of_ble_eq_true rfl) (Nat.le_of_ble_eq_true rfl) ⟨_, rfl, by rw [e9], by rw [e9]; exact hM⟩ dX1_move_47
    · refine g_iload_n rfl ld_3 23 rfl dX1_move_22 ?_
      refine g_bipush (v := -32) (by decide) 25 rfl dX1_move_23 ?_
      refine g_bipush (v := 32) (by decide) 27 rfl dX1_move_25 ?_
      refine g_callS (As := [.int dy, .int ((-32 : Int32)), .int ((32 : Int32))]) (rest := []) (c_X1_isIn z.l D b (σ := σ) dy ((-32 : Int32)) ((32 : Int32))) k_X1_isIn q1763 rfl rfl (Nat.le_of_ble_eq_true rfl) ⟨Nat.le_of_ble_eq_true rfl, Nat.le_of_ble_eq_true rfl⟩ 0 0 (Nat.le_of_ble_eq_true rfl) (Nat.le_of_ble_eq_true rfl) (Nat.le_of_ble_eq_true rfl) (Nat.le_of_ble_eq_true rfl) 30 rfl dX1_move_27 (fun v σ1 hq => ?_)
      obtain ⟨rfl, rfl⟩ := hq
      refine g_if_eqB 45 33 rfl (by decide) dX1_move_30 (fun c30 => ?_) (fun c30 => ?_)
      · refine g_bipush (v := -102) (by decide) 47 rfl dX1_move_45 ?_
        have e9 : moveM F A c v dx dy dz = ((-102 : Int32), F, A) := by simp [moveM, moT, kpF, *]
        exact g_iret hR rfl (Nat.le_of_ble_eq_true rfl) (Nat.le_of_ble_eq_true rfl) ⟨_, rfl, by rw [e9], by rw [e9]; exact hM⟩ dX1_move_47
      · refine g_iload ld_4 35 rfl dX1_move_33 ?_
        refine g_bipush (v := -32) (by decide) 37 rfl dX1_move_35 ?_
        refine g_bipush (v := 32) (by decide) 39 rfl dX1_move_37 ?_
        refine g_callS (As := [.int dz, .int ((-32 : Int32)), .int ((32 : Int32))]) (rest := []) (c_X1_isIn z.l D b (σ := σ) dz ((-32 : Int32)) ((32 : Int32))) k_X1_isIn q1763 rfl rfl (Nat.le_of_ble_eq_true rfl) ⟨Nat.le_of_ble_eq_true rfl, Nat.le_of_ble_eq_true rfl⟩ 0 0 (Nat.le_of_ble_eq_true rfl) (Nat.le_of_ble_eq_true rfl) (Nat.le_of_ble_eq_true rfl) (Nat.le_of_ble_eq_true rfl) 42 rfl dX1_move_39 (fun v σ1 hq => ?_)
        obtain ⟨rfl, rfl⟩ := hq
        refine g_if_neB 48 45 rfl (by decide) dX1_move_42 (fun c42 => ?_) (fun c42 => ?_)
        · obtain ⟨j, hj, rfl, hwj⟩ := isBx_in c5
          have hclj := nI_clamp (show j < 2 ^ 31 by omega)
          refine g_aload_n rfl ld_0 49 rfl dX1_move_48 ?_
          refine g_aload_n rfl ld_0 50 rfl dX1_move_49 ?_
          refine g_iload_n rfl ld_1 51 rfl dX1_move_50 ?_
          refine g_iconst (v := 0) (by decide) 52 rfl dX1_move_51 ?_
          refine g_callV (As := [.int (nI j), .int ((0 : Int32))]) (rest := [.ref h]) (ci := 1) (v_X1_of z.l D b hM (w0 := A 0) rfl j 0 (by omega)) k_X1_of q1793 hM.1 rfl rfl rfl rfl (Nat.le_of_ble_eq_true rfl) ⟨Nat.le_of_ble_eq_true rfl, Nat.le_of_ble_eq_true rfl⟩ 0 0 (Nat.le_of_ble_eq_true rfl) (Nat.le_of_ble_eq_true rfl) (Nat.le_of_ble_eq_true rfl) (Nat.le_of_ble_eq_true rfl) 55 rfl dX1_move_52 (fun v σ1 hq => ?_)
          obtain ⟨rfl, rfl⟩ := hq
          refine g_iload_n rfl ld_2 56 rfl dX1_move_55 ?_
          refine g_iadd 57 rfl dX1_move_56 ?_
          refine g_aload_n rfl ld_0 58 rfl dX1_move_57 ?_
          refine g_iload_n rfl ld_1 59 rfl dX1_move_58 ?_
          refine g_iconst (v := 1) (by decide) 60 rfl dX1_move_59 ?_
          refine g_callV (As := [.int (nI j), .int ((1 : Int32))]) (rest := [.int (((A 0) (7 * j)) + dx), .ref h]) (ci := 1) (v_X1_of z.l D b hM (w0 := A 0) rfl j 1 (by omega)) k_X1_of q1793 hM.1 rfl rfl rfl rfl (Nat.le_of_ble_eq_true rfl) ⟨Nat.le_of_ble_eq_true rfl, Nat.le_of_ble_eq_true rfl⟩ 0 0 (Nat.le_of_ble_eq_true rfl) (Nat.le_of_ble_eq_true rfl) (Nat.le_of_ble_eq_true rfl) (Nat.le_of_ble_eq_true rfl) 63 rfl dX1_move_60 (fun v σ1 hq => ?_)
          obtain ⟨rfl, rfl⟩ := hq
          refine g_iload_n rfl ld_3 64 rfl dX1_move_63 ?_
          refine g_iadd 65 rfl dX1_move_64 ?_
          refine g_aload_n rfl ld_0 66 rfl dX1_move_65 ?_
          refine g_iload_n rfl ld_1 67 rfl dX1_move_66 ?_
          refine g_iconst (v := 2) (by decide) 68 rfl dX1_move_67 ?_
          refine g_callV (As := [.int (nI j), .int ((2 : Int32))]) (rest := [.int (((A 0) (7 * j + 1)) + dy), .int (((A 0) (7 * j)) + dx), .ref h]) (ci := 1) (v_X1_of z.l D b hM (w0 := A 0) rfl j 2 (by omega)) k_X1_of q1793 hM.1 rfl rfl rfl rfl (Nat.le_of_ble_eq_true rfl) ⟨Nat.le_of_ble_eq_true rfl, Nat.le_of_ble_eq_true rfl⟩ 0 0 (Nat.le_of_ble_eq_true rfl) (Nat.le_of_ble_eq_true rfl) (Nat.le_of_ble_eq_true rfl) (Nat.le_of_ble_eq_true rfl) 71 rfl dX1_move_68 (fun v σ1 hq => ?_)
          obtain ⟨rfl, rfl⟩ := hq
          refine g_iload ld_4 73 rfl dX1_move_71 ?_
          refine g_iadd 74 rfl dX1_move_73 ?_
          refine g_aload_n rfl ld_0 75 rfl dX1_move_74 ?_
          refine g_iload_n rfl ld_1 76 rfl dX1_move_75 ?_
          refine g_iconst (v := 3) (by decide) 77 rfl dX1_move_76 ?_
          refine g_callV (As := [.int (nI j), .int ((3 : Int32))]) (rest := [.int (((A 0) (7 * j + 2)) + dz), .int (((A 0) (7 * j + 1)) + dy), .int (((A 0) (7 * j)) + dx), .ref h]) (ci := 1) (v_X1_of z.l D b hM (w0 := A 0) rfl j 3 (by omega)) k_X1_of q1793 hM.1 rfl rfl rfl rfl (Nat.le_of_ble_eq_true rfl) ⟨Nat.le_of_ble_eq_true rfl, Nat.le_of_ble_eq_true rfl⟩ 0 0 (Nat.le_of_ble_eq_true rfl) (Nat.le_of_ble_eq_true rfl) (Nat.le_of_ble_eq_true rfl) (Nat.le_of_ble_eq_true rfl) 80 rfl dX1_move_77 (fun v σ1 hq => ?_)
          obtain ⟨rfl, rfl⟩ := hq
          refine g_iload_n rfl ld_2 81 rfl dX1_move_80 ?_
          refine g_iadd 82 rfl dX1_move_81 ?_
          refine g_aload_n rfl ld_0 83 rfl dX1_move_82 ?_
          refine g_iload_n rfl ld_1 84 rfl dX1_move_83 ?_
          refine g_iconst (v := 4) (by decide) 85 rfl dX1_move_84 ?_
          refine g_callV (As := [.int (nI j), .int ((4 : Int32))]) (rest := [.int (((A 0) (7 * j + 3)) + dx), .int (((A 0) (7 * j + 2)) + dz), .int (((A 0) (7 * j + 1)) + dy), .int (((A 0) (7 * j)) + dx), .ref h]) (ci := 1) (v_X1_of z.l D b hM (w0 := A 0) rfl j 4 (by omega)) k_X1_of q1793 hM.1 rfl rfl rfl rfl (Nat.le_of_ble_eq_true rfl) ⟨Nat.le_of_ble_eq_true rfl, Nat.le_of_ble_eq_true rfl⟩ 0 0 (Nat.le_of_ble_eq_true rfl) (Nat.le_of_ble_eq_true rfl) (Nat.le_of_ble_eq_true rfl) (Nat.le_of_ble_eq_true rfl) 88 rfl dX1_move_85 (fun v σ1 hq => ?_)
          obtain ⟨rfl, rfl⟩ := hq
          refine g_iload_n rfl ld_3 89 rfl dX1_move_88 ?_
          refine g_iadd 90 rfl dX1_move_89 ?_
          refine g_aload_n rfl ld_0 91 rfl dX1_move_90 ?_
          refine g_iload_n rfl ld_1 92 rfl dX1_move_91 ?_
          refine g_iconst (v := 5) (by decide) 93 rfl dX1_move_92 ?_
          refine g_callV (As := [.int (nI j), .int ((5 : Int32))]) (rest := [.int (((A 0) (7 * j + 4)) + dy), .int (((A 0) (7 * j + 3)) + dx), .int (((A 0) (7 * j + 2)) + dz), .int (((A 0) (7 * j + 1)) + dy), .int (((A 0) (7 * j)) + dx), .ref h]) (ci := 1) (v_X1_of z.l D b hM (w0 := A 0) rfl j 5 (by omega)) k_X1_of q1793 hM.1 rfl rfl rfl rfl (Nat.le_of_ble_eq_true rfl) ⟨Nat.le_of_ble_eq_true rfl, Nat.le_of_ble_eq_true rfl⟩ 0 0 (Nat.le_of_ble_eq_true rfl) (Nat.le_of_ble_eq_true rfl) (Nat.le_of_ble_eq_true rfl) (Nat.le_of_ble_eq_true rfl) 96 rfl dX1_move_93 (fun v σ1 hq => ?_)
          obtain ⟨rfl, rfl⟩ := hq
          refine g_iload ld_4 98 rfl dX1_move_96 ?_
          refine g_iadd 99 rfl dX1_move_98 ?_
          refine g_callV (As := [.int (((A 0) (7 * j)) + dx), .int (((A 0) (7 * j + 1)) + dy), .int (((A 0) (7 * j + 2)) + dz), .int (((A 0) (7 * j + 3)) + dx), .int (((A 0) (7 * j + 4)) + dy), .int (((A 0) (7 * j + 5)) + dz)]) (rest := []) (ci := 1) (v_X1_isTrial z.l D b hM (w7 := A 7) rfl (((A 0) (7 * j)) + dx) (((A 0) (7 * j + 1)) + dy) (((A 0) (7 * j + 2)) + dz) (((A 0) (7 * j + 3)) + dx) (((A 0) (7 * j + 4)) + dy) (((A 0) (7 * j + 5)) + dz)) k_X1_isTrial q1751 hM.1 rfl rfl rfl rfl (Nat.le_of_ble_eq_true rfl) ⟨Nat.le_of_ble_eq_true rfl, Nat.le_of_ble_eq_true rfl⟩ 0 0 (Nat.le_of_ble_eq_true rfl) (Nat.le_of_ble_eq_true rfl) (Nat.le_of_ble_eq_true rfl) (Nat.le_of_ble_eq_true rfl) 102 rfl dX1_move_99 (fun v σ1 hq => ?_)
          obtain ⟨_, rfl, rfl, hM⟩ := hq
          revert σ1
          intro σ hM
          refine g_if_neB 108 105 rfl (by decide) dX1_move_102 (fun c102 => ?_) (fun c102 => ?_)
          · refine g_aload_n rfl ld_0 109 rfl dX1_move_108 ?_
            refine g_iload_n rfl ld_1 110 rfl dX1_move_109 ?_
            refine g_callV (As := [.int (nI j)]) (rest := []) (ci := 1) (v_X1_metByTrial z.l D b hM (w0 := A 0) rfl (w7 := tr6 (A 7) (((A 0) (7 * j)) + dx) (((A 0) (7 * j + 1)) + dy) (((A 0) (7 * j + 2)) + dz) (((A 0) (7 * j + 3)) + dx) (((A 0) (7 * j + 4)) + dy) (((A 0) (7 * j + 5)) + dz)) rfl (nI j)) k_X1_metByTrial q1755 hM.1 rfl rfl rfl rfl (Nat.le_of_ble_eq_true rfl) ⟨Nat.le_of_ble_eq_true rfl, Nat.le_of_ble_eq_true rfl⟩ 0 0 (Nat.le_of_ble_eq_true rfl) (Nat.le_of_ble_eq_true rfl) (Nat.le_of_ble_eq_true rfl) (Nat.le_of_ble_eq_true rfl) 113 rfl dX1_move_110 (fun v σ1 hq => ?_)
            obtain ⟨rfl, rfl⟩ := hq
            refine g_bipush (v := -106) (by decide) 115 rfl dX1_move_113 ?_
            refine g_icmp_eq 121 118 rfl (by decide) dX1_move_115 (fun c115 => ?_) (fun c115 => ?_)
            · refine g_aload_n rfl ld_0 122 rfl dX1_move_121 ?_
              refine g_callV (As := []) (rest := []) (ci := 1) (v_X1_pairs z.l D b hM (w0 := A 0) rfl ) k_X1_pairs q1797 hM.1 rfl rfl rfl rfl (Nat.le_of_ble_eq_true rfl) ⟨Nat.le_of_ble_eq_true rfl, Nat.le_of_ble_eq_true rfl⟩ 0 0 (Nat.le_of_ble_eq_true rfl) (Nat.le_of_ble_eq_true rfl) (Nat.le_of_ble_eq_true rfl) (Nat.le_of_ble_eq_true rfl) 125 rfl dX1_move_122 (fun v σ1 hq => ?_)
              obtain ⟨rfl, rfl⟩ := hq
              refine g_istore sa_5 127 rfl dX1_move_125 ?_
              refine g_aload_n rfl ld_0 128 rfl dX1_move_127 ?_
              refine g_callV (As := []) (rest := []) (ci := 1) (v_X1_keep z.l D b hM (w0 := A 0) rfl (w1 := A 1) rfl c hc hc8) k_X1_keep q1773 hM.1 rfl rfl rfl rfl (Nat.le_of_ble_eq_true rfl) ⟨Nat.le_of_ble_eq_true rfl, Nat.le_of_ble_eq_true rfl⟩ 0 0 (Nat.le_of_ble_eq_true rfl) (Nat.le_of_ble_eq_true rfl) (Nat.le_of_ble_eq_true rfl) (Nat.le_of_ble_eq_true rfl) 131 rfl dX1_move_128 (fun v σ1 hq => ?_)
              obtain ⟨rfl, hM⟩ := hq
              revert σ1
              intro σ hM
              refine g_aload_n rfl ld_0 132 rfl dX1_move_131 ?_
              refine g_iload_n rfl ld_1 133 rfl dX1_move_132 ?_
              refine g_callV (As := [.int (nI j)]) (rest := []) (ci := 1) (v_X1_lay z.l D b hM (w0 := A 0) rfl (w7 := tr6 (A 7) (((A 0) (7 * j)) + dx) (((A 0) (7 * j + 1)) + dy) (((A 0) (7 * j + 2)) + dz) (((A 0) (7 * j + 3)) + dx) (((A 0) (7 * j + 4)) + dy) (((A 0) (7 * j + 5)) + dz)) rfl j (by omega)) k_X1_lay q1777 hM.1 rfl rfl rfl rfl (Nat.le_of_ble_eq_true rfl) ⟨Nat.le_of_ble_eq_true rfl, Nat.le_of_ble_eq_true rfl⟩ 0 0 (Nat.le_of_ble_eq_true rfl) (Nat.le_of_ble_eq_true rfl) (Nat.le_of_ble_eq_true rfl) (Nat.le_of_ble_eq_true rfl) 136 rfl dX1_move_133 (fun v σ1 hq => ?_)
              obtain ⟨rfl, hM⟩ := hq
              revert σ1
              intro σ hM
              refine g_aload_n rfl ld_0 137 rfl dX1_move_136 ?_
              refine g_callV (As := []) (rest := []) (ci := 1) (v_X1_pairs z.l D b hM (w0 := layW (A 0) (tr6 (A 7) (((A 0) (7 * j)) + dx) (((A 0) (7 * j + 1)) + dy) (((A 0) (7 * j + 2)) + dz) (((A 0) (7 * j + 3)) + dx) (((A 0) (7 * j + 4)) + dy) (((A 0) (7 * j + 5)) + dz)) j) rfl ) k_X1_pairs q1797 hM.1 rfl rfl rfl rfl (Nat.le_of_ble_eq_true rfl) ⟨Nat.le_of_ble_eq_true rfl, Nat.le_of_ble_eq_true rfl⟩ 0 0 (Nat.le_of_ble_eq_true rfl) (Nat.le_of_ble_eq_true rfl) (Nat.le_of_ble_eq_true rfl) (Nat.le_of_ble_eq_true rfl) 140 rfl dX1_move_137 (fun v σ1 hq => ?_)
              obtain ⟨rfl, rfl⟩ := hq
              refine g_iload ld_5 142 rfl dX1_move_140 ?_
              refine g_isub 143 rfl dX1_move_142 ?_
              have e9 : moveM F A c (nI j) dx dy dz = ((pairsR (layW (A 0) (tr6 (A 7) (((A 0) (7 * j)) + dx) (((A 0) (7 * j + 1)) + dy) (((A 0) (7 * j + 2)) + dz) (((A 0) (7 * j + 3)) + dx) (((A 0) (7 * j + 4)) + dy) (((A 0) (7 * j + 5)) + dz)) j)) - (pairsR (A 0)), upd F 2 (nI (kc c + 1)), uA (uA (uA A 7 (tr6 (A 7) (((A 0) (7 * j)) + dx) (((A 0) (7 * j + 1)) + dy) (((A 0) (7 * j + 2)) + dz) (((A 0) (7 * j + 3)) + dx) (((A 0) (7 * j + 4)) + dy) (((A 0) (7 * j + 5)) + dz))) 1 (keepP (A 1) (A 0) c)) 0 (layW (A 0) (tr6 (A 7) (((A 0) (7 * j)) + dx) (((A 0) (7 * j + 1)) + dy) (((A 0) (7 * j + 2)) + dz) (((A 0) (7 * j + 3)) + dx) (((A 0) (7 * j + 4)) + dy) (((A 0) (7 * j + 5)) + dz)) j)) := by simp [moveM, moT, kpF, *]
              exact g_iret hR rfl (Nat.le_of_ble_eq_true rfl) (Nat.le_of_ble_eq_true rfl) ⟨_, rfl, by rw [e9], by rw [e9]; exact hM⟩ dX1_move_143
            · refine g_bipush (v := -103) (by decide) 120 rfl dX1_move_118 ?_
              have e9 : moveM F A c (nI j) dx dy dz = ((-103 : Int32), F, uA A 7 (tr6 (A 7) (((A 0) (7 * j)) + dx) (((A 0) (7 * j + 1)) + dy) (((A 0) (7 * j + 2)) + dz) (((A 0) (7 * j + 3)) + dx) (((A 0) (7 * j + 4)) + dy) (((A 0) (7 * j + 5)) + dz))) := by simp [moveM, moT, kpF, *]
              exact g_iret hR rfl (Nat.le_of_ble_eq_true rfl) (Nat.le_of_ble_eq_true rfl) ⟨_, rfl, by rw [e9], by rw [e9]; exact hM⟩ dX1_move_120
          · refine g_bipush (v := -105) (by decide) 107 rfl dX1_move_105 ?_
            have e9 : moveM F A c (nI j) dx dy dz = ((-105 : Int32), F, uA A 7 (tr6 (A 7) (((A 0) (7 * j)) + dx) (((A 0) (7 * j + 1)) + dy) (((A 0) (7 * j + 2)) + dz) (((A 0) (7 * j + 3)) + dx) (((A 0) (7 * j + 4)) + dy) (((A 0) (7 * j + 5)) + dz))) := by simp [moveM, moT, kpF, *]
            exact g_iret hR rfl (Nat.le_of_ble_eq_true rfl) (Nat.le_of_ble_eq_true rfl) ⟨_, rfl, by rw [e9], by rw [e9]; exact hM⟩ dX1_move_107
        · refine g_bipush (v := -102) (by decide) 47 rfl dX1_move_45 ?_
          have e9 : moveM F A c v dx dy dz = ((-102 : Int32), F, A) := by simp [moveM, moT, kpF, *]
          exact g_iret hR rfl (Nat.le_of_ble_eq_true rfl) (Nat.le_of_ble_eq_true rfl) ⟨_, rfl, by rw [e9], by rw [e9]; exact hM⟩ dX1_move_47
  · refine g_bipush (v := -101) (by decide) 10 rfl dX1_move_8 ?_
    have e9 : moveM F A c v dx dy dz = ((-101 : Int32), F, A) := by simp [moveM, moT, kpF, *]
    exact g_iret hR rfl (Nat.le_of_ble_eq_true rfl) (Nat.le_of_ble_eq_true rfl) ⟨_, rfl, by rw [e9], by rw [e9]; exact hM⟩ dX1_move_10
def splT (t w : Nat → Int32) (j : Nat) (q : Nat) (at0 : Int32) : Nat → Int32 := upd (tr6 t (w (7 * j)) (w (7 * j + 1)) (w (7 * j + 2)) (w (7 * j + 3)) (w (7 * j + 4)) (w (7 * j + 5))) q at0
def splitM (F : Nat → Int32) (A : Nat → Nat → Int32) (c : Nat) (v ax at0 : Int32) : MS :=
  if isBx (A 0) v = false then (-101, F, A)
  else if (inR ax 0 2 && decide (A 0 (7 * v.toNatClampNeg + ax.toNatClampNeg) < at0) && decide (at0 < A 0 (7 * v.toNatClampNeg + (ax.toNatClampNeg + 3)))) = false then (-102, F, A)
  else if lowR (A 0) = 12 then (-104, F, A)
  else (nI (lowR (A 0)), kpF F c, uA (uA (uA A 1 (keepP (A 1) (A 0) c)) 7 (splT (A 7) (A 0) v.toNatClampNeg ax.toNatClampNeg at0)) 0 (upd (layW (A 0) (splT (A 7) (A 0) v.toNatClampNeg ax.toNatClampNeg at0) (lowR (A 0))) (7 * v.toNatClampNeg + 3 + ax.toNatClampNeg) at0))
def rX1_split : Room := { frames := 4, cells := 0, slots := 0, locals := 76 }
theorem k_X1_split : CV yX1_split cX1_split 6 (some .int) 3 := ⟨q1827, q1828, q81, q1829, by decide +kernel, by decide +kernel, by decide +kernel⟩
set_option maxHeartbeats 1000000 in
theorem c_X1_split (l : Launch) (D : DD) (b : Nat) {h : Nat} {ad : Nat → Nat} {σ0 : Hp} {F : Nat → Int32} {A : Nat → Nat → Int32} {σ : Hp} (hM : MW D h ad σ0 F A σ) (c : Nat) (hc : F 2 = nI c) (hc8 : c ≤ 8) (v ax at0 : Int32) : CM l yX1_split cX1_split 6 (some .int) rX1_split D b [.ref h, .int v, .int ax, .int at0] σ (PI (fun r σ' => r = (splitM F A c v ax at0).1 ∧ MW D h ad σ0 (splitM F A c v ax at0).2.1 (splitM F A c v ax at0).2.2 σ')) := by
  refine CM_of [some (.ref h), some (.int v), some (.int ax), some (.int at0), none, none] RX1 (by decide) rfl (cat_all rfl) (Nat.le_of_ble_eq_true rfl) rfl ?_
  intro z hz hR hnm
  have hlow := lowR_le (A 0)
  refine g_aload_n rfl ld_0 1 rfl dX1_split_0 ?_
  refine g_iload_n rfl ld_1 2 rfl dX1_split_1 ?_
  refine g_callV (As := [.int v]) (rest := []) (ci := 1) (v_X1_isBox z.l D b hM (w0 := A 0) rfl v) k_X1_isBox q1759 hM.1 rfl rfl rfl rfl (Nat.le_of_ble_eq_true rfl) ⟨Nat.le_of_ble_eq_true rfl, Nat.le_of_ble_eq_true rfl⟩ 0 0 (Nat.le_of_ble_eq_true rfl) (Nat.le_of_ble_eq_true rfl) (Nat.le_of_ble_eq_true rfl) (Nat.le_of_ble_eq_true rfl) 5 rfl dX1_split_2 (fun v σ1 hq => ?_)
  obtain ⟨rfl, rfl⟩ := hq
  refine g_if_neB 11 8 rfl (by decide) dX1_split_5 (fun c5 => ?_) (fun c5 => ?_)
  · obtain ⟨j, hj, rfl, hwj⟩ := isBx_in c5
    have hclj := nI_clamp (show j < 2 ^ 31 by omega)
    refine g_iload_n rfl ld_2 12 rfl dX1_split_11 ?_
    refine g_iconst (v := 0) (by decide) 13 rfl dX1_split_12 ?_
    refine g_iconst (v := 2) (by decide) 14 rfl dX1_split_13 ?_
    refine g_callS (As := [.int ax, .int ((0 : Int32)), .int ((2 : Int32))]) (rest := []) (c_X1_isIn z.l D b (σ := σ) ax ((0 : Int32)) ((2 : Int32))) k_X1_isIn q1763 rfl rfl (Nat.le_of_ble_eq_true rfl) ⟨Nat.le_of_ble_eq_true rfl, Nat.le_of_ble_eq_true rfl⟩ 0 0 (Nat.le_of_ble_eq_true rfl) (Nat.le_of_ble_eq_true rfl) (Nat.le_of_ble_eq_true rfl) (Nat.le_of_ble_eq_true rfl) 17 rfl dX1_split_14 (fun v σ1 hq => ?_)
    obtain ⟨rfl, rfl⟩ := hq
    refine g_if_eqB 42 20 rfl (by decide) dX1_split_17 (fun c17 => ?_) (fun c17 => ?_)
    · refine g_bipush (v := -102) (by decide) 44 rfl dX1_split_42 ?_
      have e9 : splitM F A c (nI j) ax at0 = ((-102 : Int32), F, A) := by simp [splitM, splT, kpF, *]
      exact g_iret hR rfl (Nat.le_of_ble_eq_true rfl) (Nat.le_of_ble_eq_true rfl) ⟨_, rfl, by rw [e9], by rw [e9]; exact hM⟩ dX1_split_44
    · obtain ⟨q, hq, rfl⟩ := inR_nat (N := 2) c17 (by decide)
      have hclq := nI_clamp (show q < 2 ^ 31 by omega)
      refine g_iload_n rfl ld_3 21 rfl dX1_split_20 ?_
      refine g_aload_n rfl ld_0 22 rfl dX1_split_21 ?_
      refine g_iload_n rfl ld_1 23 rfl dX1_split_22 ?_
      refine g_iload_n rfl ld_2 24 rfl dX1_split_23 ?_
      refine g_callV (As := [.int (nI j), .int (nI q)]) (rest := [.int at0]) (ci := 1) (v_X1_of z.l D b hM (w0 := A 0) rfl j q (by omega)) k_X1_of q1793 hM.1 rfl rfl rfl rfl (Nat.le_of_ble_eq_true rfl) ⟨Nat.le_of_ble_eq_true rfl, Nat.le_of_ble_eq_true rfl⟩ 0 0 (Nat.le_of_ble_eq_true rfl) (Nat.le_of_ble_eq_true rfl) (Nat.le_of_ble_eq_true rfl) (Nat.le_of_ble_eq_true rfl) 27 rfl dX1_split_24 (fun v σ1 hq => ?_)
      obtain ⟨rfl, rfl⟩ := hq
      refine g_icmp_le 42 30 rfl (by decide) dX1_split_27 (fun c27 => ?_) (fun c27 => ?_)
      · refine g_bipush (v := -102) (by decide) 44 rfl dX1_split_42 ?_
        have e9 : splitM F A c (nI j) (nI q) at0 = ((-102 : Int32), F, A) := by simp [splitM, splT, kpF, *]
        exact g_iret hR rfl (Nat.le_of_ble_eq_true rfl) (Nat.le_of_ble_eq_true rfl) ⟨_, rfl, by rw [e9], by rw [e9]; exact hM⟩ dX1_split_44
      · refine g_iload_n rfl ld_3 31 rfl dX1_split_30 ?_
        refine g_aload_n rfl ld_0 32 rfl dX1_split_31 ?_
        refine g_iload_n rfl ld_1 33 rfl dX1_split_32 ?_
        refine g_iload_n rfl ld_2 34 rfl dX1_split_33 ?_
        refine g_iconst (v := 3) (by decide) 35 rfl dX1_split_34 ?_
        refine g_iaddN (a := q) (c := 3) rfl (show (3 : Int32) = nI 3 from rfl) 36 rfl dX1_split_35 ?_
        refine g_callV (As := [.int (nI j), .int (nI (q + 3))]) (rest := [.int at0]) (ci := 1) (v_X1_of z.l D b hM (w0 := A 0) rfl j (q + 3) (by omega)) k_X1_of q1793 hM.1 rfl rfl rfl rfl (Nat.le_of_ble_eq_true rfl) ⟨Nat.le_of_ble_eq_true rfl, Nat.le_of_ble_eq_true rfl⟩ 0 0 (Nat.le_of_ble_eq_true rfl) (Nat.le_of_ble_eq_true rfl) (Nat.le_of_ble_eq_true rfl) (Nat.le_of_ble_eq_true rfl) 39 rfl dX1_split_36 (fun v σ1 hq => ?_)
        obtain ⟨rfl, rfl⟩ := hq
        refine g_icmp_lt 45 42 rfl (by decide) dX1_split_39 (fun c39 => ?_) (fun c39 => ?_)
        · refine g_aload_n rfl ld_0 46 rfl dX1_split_45 ?_
          refine g_callV (As := []) (rest := []) (ci := 1) (v_X1_lowestFree z.l D b hM (w0 := A 0) rfl ) k_X1_lowestFree q1769 hM.1 rfl rfl rfl rfl (Nat.le_of_ble_eq_true rfl) ⟨Nat.le_of_ble_eq_true rfl, Nat.le_of_ble_eq_true rfl⟩ 0 0 (Nat.le_of_ble_eq_true rfl) (Nat.le_of_ble_eq_true rfl) (Nat.le_of_ble_eq_true rfl) (Nat.le_of_ble_eq_true rfl) 49 rfl dX1_split_46 (fun v σ1 hq => ?_)
          obtain ⟨rfl, rfl⟩ := hq
          refine g_istore sa_4 51 rfl dX1_split_49 ?_
          refine g_iload ld_4 53 rfl dX1_split_51 ?_
          refine g_bipush (v := 12) (by decide) 55 rfl dX1_split_53 ?_
          refine g_icmp_neN (a := (lowR (A 0))) (c := 12) rfl (show (12 : Int32) = nI 12 from rfl) (by omega) (by omega) 61 58 rfl (by decide) dX1_split_55 (fun c55 => ?_) (fun c55 => ?_)
          · refine g_aload_n rfl ld_0 62 rfl dX1_split_61 ?_
            refine g_callV (As := []) (rest := []) (ci := 1) (v_X1_keep z.l D b hM (w0 := A 0) rfl (w1 := A 1) rfl c hc hc8) k_X1_keep q1773 hM.1 rfl rfl rfl rfl (Nat.le_of_ble_eq_true rfl) ⟨Nat.le_of_ble_eq_true rfl, Nat.le_of_ble_eq_true rfl⟩ 0 0 (Nat.le_of_ble_eq_true rfl) (Nat.le_of_ble_eq_true rfl) (Nat.le_of_ble_eq_true rfl) (Nat.le_of_ble_eq_true rfl) 65 rfl dX1_split_62 (fun v σ1 hq => ?_)
            obtain ⟨rfl, hM⟩ := hq
            revert σ1
            intro σ hM
            refine g_aload_n rfl ld_0 66 rfl dX1_split_65 ?_
            refine g_aload_n rfl ld_0 67 rfl dX1_split_66 ?_
            refine g_iload_n rfl ld_1 68 rfl dX1_split_67 ?_
            refine g_iconst (v := 0) (by decide) 69 rfl dX1_split_68 ?_
            refine g_callV (As := [.int (nI j), .int ((0 : Int32))]) (rest := [.ref h]) (ci := 1) (v_X1_of z.l D b hM (w0 := A 0) rfl j 0 (by omega)) k_X1_of q1793 hM.1 rfl rfl rfl rfl (Nat.le_of_ble_eq_true rfl) ⟨Nat.le_of_ble_eq_true rfl, Nat.le_of_ble_eq_true rfl⟩ 0 0 (Nat.le_of_ble_eq_true rfl) (Nat.le_of_ble_eq_true rfl) (Nat.le_of_ble_eq_true rfl) (Nat.le_of_ble_eq_true rfl) 72 rfl dX1_split_69 (fun v σ1 hq => ?_)
            obtain ⟨rfl, rfl⟩ := hq
            refine g_aload_n rfl ld_0 73 rfl dX1_split_72 ?_
            refine g_iload_n rfl ld_1 74 rfl dX1_split_73 ?_
            refine g_iconst (v := 1) (by decide) 75 rfl dX1_split_74 ?_
            refine g_callV (As := [.int (nI j), .int ((1 : Int32))]) (rest := [.int ((A 0) (7 * j)), .ref h]) (ci := 1) (v_X1_of z.l D b hM (w0 := A 0) rfl j 1 (by omega)) k_X1_of q1793 hM.1 rfl rfl rfl rfl (Nat.le_of_ble_eq_true rfl) ⟨Nat.le_of_ble_eq_true rfl, Nat.le_of_ble_eq_true rfl⟩ 0 0 (Nat.le_of_ble_eq_true rfl) (Nat.le_of_ble_eq_true rfl) (Nat.le_of_ble_eq_true rfl) (Nat.le_of_ble_eq_true rfl) 78 rfl dX1_split_75 (fun v σ1 hq => ?_)
            obtain ⟨rfl, rfl⟩ := hq
            refine g_aload_n rfl ld_0 79 rfl dX1_split_78 ?_
            refine g_iload_n rfl ld_1 80 rfl dX1_split_79 ?_
            refine g_iconst (v := 2) (by decide) 81 rfl dX1_split_80 ?_
            refine g_callV (As := [.int (nI j), .int ((2 : Int32))]) (rest := [.int ((A 0) (7 * j + 1)), .int ((A 0) (7 * j)), .ref h]) (ci := 1) (v_X1_of z.l D b hM (w0 := A 0) rfl j 2 (by omega)) k_X1_of q1793 hM.1 rfl rfl rfl rfl (Nat.le_of_ble_eq_true rfl) ⟨Nat.le_of_ble_eq_true rfl, Nat.le_of_ble_eq_true rfl⟩ 0 0 (Nat.le_of_ble_eq_true rfl) (Nat.le_of_ble_eq_true rfl) (Nat.le_of_ble_eq_true rfl) (Nat.le_of_ble_eq_true rfl) 84 rfl dX1_split_81 (fun v σ1 hq => ?_)
            obtain ⟨rfl, rfl⟩ := hq
            refine g_aload_n rfl ld_0 85 rfl dX1_split_84 ?_
            refine g_iload_n rfl ld_1 86 rfl dX1_split_85 ?_
            refine g_iconst (v := 3) (by decide) 87 rfl dX1_split_86 ?_
            refine g_callV (As := [.int (nI j), .int ((3 : Int32))]) (rest := [.int ((A 0) (7 * j + 2)), .int ((A 0) (7 * j + 1)), .int ((A 0) (7 * j)), .ref h]) (ci := 1) (v_X1_of z.l D b hM (w0 := A 0) rfl j 3 (by omega)) k_X1_of q1793 hM.1 rfl rfl rfl rfl (Nat.le_of_ble_eq_true rfl) ⟨Nat.le_of_ble_eq_true rfl, Nat.le_of_ble_eq_true rfl⟩ 0 0 (Nat.le_of_ble_eq_true rfl) (Nat.le_of_ble_eq_true rfl) (Nat.le_of_ble_eq_true rfl) (Nat.le_of_ble_eq_true rfl) 90 rfl dX1_split_87 (fun v σ1 hq => ?_)
            obtain ⟨rfl, rfl⟩ := hq
            refine g_aload_n rfl ld_0 91 rfl dX1_split_90 ?_
            refine g_iload_n rfl ld_1 92 rfl dX1_split_91 ?_
            refine g_iconst (v := 4) (by decide) 93 rfl dX1_split_92 ?_
            refine g_callV (As := [.int (nI j), .int ((4 : Int32))]) (rest := [.int ((A 0) (7 * j + 3)), .int ((A 0) (7 * j + 2)), .int ((A 0) (7 * j + 1)), .int ((A 0) (7 * j)), .ref h]) (ci := 1) (v_X1_of z.l D b hM (w0 := A 0) rfl j 4 (by omega)) k_X1_of q1793 hM.1 rfl rfl rfl rfl (Nat.le_of_ble_eq_true rfl) ⟨Nat.le_of_ble_eq_true rfl, Nat.le_of_ble_eq_true rfl⟩ 0 0 (Nat.le_of_ble_eq_true rfl) (Nat.le_of_ble_eq_true rfl) (Nat.le_of_ble_eq_true rfl) (Nat.le_of_ble_eq_true rfl) 96 rfl dX1_split_93 (fun v σ1 hq => ?_)
            obtain ⟨rfl, rfl⟩ := hq
            refine g_aload_n rfl ld_0 97 rfl dX1_split_96 ?_
            refine g_iload_n rfl ld_1 98 rfl dX1_split_97 ?_
            refine g_iconst (v := 5) (by decide) 99 rfl dX1_split_98 ?_
            refine g_callV (As := [.int (nI j), .int ((5 : Int32))]) (rest := [.int ((A 0) (7 * j + 4)), .int ((A 0) (7 * j + 3)), .int ((A 0) (7 * j + 2)), .int ((A 0) (7 * j + 1)), .int ((A 0) (7 * j)), .ref h]) (ci := 1) (v_X1_of z.l D b hM (w0 := A 0) rfl j 5 (by omega)) k_X1_of q1793 hM.1 rfl rfl rfl rfl (Nat.le_of_ble_eq_true rfl) ⟨Nat.le_of_ble_eq_true rfl, Nat.le_of_ble_eq_true rfl⟩ 0 0 (Nat.le_of_ble_eq_true rfl) (Nat.le_of_ble_eq_true rfl) (Nat.le_of_ble_eq_true rfl) (Nat.le_of_ble_eq_true rfl) 102 rfl dX1_split_99 (fun v σ1 hq => ?_)
            obtain ⟨rfl, rfl⟩ := hq
            refine g_callV (As := [.int ((A 0) (7 * j)), .int ((A 0) (7 * j + 1)), .int ((A 0) (7 * j + 2)), .int ((A 0) (7 * j + 3)), .int ((A 0) (7 * j + 4)), .int ((A 0) (7 * j + 5))]) (rest := []) (ci := 1) (v_X1_isTrial z.l D b hM (w7 := A 7) rfl ((A 0) (7 * j)) ((A 0) (7 * j + 1)) ((A 0) (7 * j + 2)) ((A 0) (7 * j + 3)) ((A 0) (7 * j + 4)) ((A 0) (7 * j + 5))) k_X1_isTrial q1751 hM.1 rfl rfl rfl rfl (Nat.le_of_ble_eq_true rfl) ⟨Nat.le_of_ble_eq_true rfl, Nat.le_of_ble_eq_true rfl⟩ 0 0 (Nat.le_of_ble_eq_true rfl) (Nat.le_of_ble_eq_true rfl) (Nat.le_of_ble_eq_true rfl) (Nat.le_of_ble_eq_true rfl) 105 rfl dX1_split_102 (fun v σ1 hq => ?_)
            obtain ⟨_, rfl, rfl, hM⟩ := hq
            revert σ1
            intro σ hM
            refine g_istore sa_5 107 rfl dX1_split_105 ?_
            refine g_aload_n rfl ld_0 108 rfl dX1_split_107 ?_
            refine g_getf (kf := 7) (v := .ref (ad 7)) hM.1 rfl rfl in_X1 (by decide) q1668 rfl 111 rfl dX1_split_108 ?_
            refine g_iload_n rfl ld_2 112 rfl dX1_split_111 ?_
            refine g_iload_n rfl ld_3 113 rfl dX1_split_112 ?_
            refine gm_astU (j := q) 7 (by decide) (by decide) hM rfl (by simp only [msz]; omega) 114 rfl dX1_split_113 (fun σ hM => ?_)
            refine g_aload_n rfl ld_0 115 rfl dX1_split_114 ?_
            refine g_iload ld_4 117 rfl dX1_split_115 ?_
            refine g_callV (As := [.int (nI (lowR (A 0)))]) (rest := []) (ci := 1) (v_X1_lay z.l D b hM (w0 := A 0) rfl (w7 := upd (tr6 (A 7) ((A 0) (7 * j)) ((A 0) (7 * j + 1)) ((A 0) (7 * j + 2)) ((A 0) (7 * j + 3)) ((A 0) (7 * j + 4)) ((A 0) (7 * j + 5))) q at0) rfl (lowR (A 0)) (by omega)) k_X1_lay q1777 hM.1 rfl rfl rfl rfl (Nat.le_of_ble_eq_true rfl) ⟨Nat.le_of_ble_eq_true rfl, Nat.le_of_ble_eq_true rfl⟩ 0 0 (Nat.le_of_ble_eq_true rfl) (Nat.le_of_ble_eq_true rfl) (Nat.le_of_ble_eq_true rfl) (Nat.le_of_ble_eq_true rfl) 120 rfl dX1_split_117 (fun v σ1 hq => ?_)
            obtain ⟨rfl, hM⟩ := hq
            revert σ1
            intro σ hM
            refine g_aload_n rfl ld_0 121 rfl dX1_split_120 ?_
            refine g_getf (kf := 0) (v := .ref (ad 0)) hM.1 rfl rfl in_X1 (by decide) q1661 rfl 124 rfl dX1_split_121 ?_
            refine g_bipush (v := 7) (by decide) 126 rfl dX1_split_124 ?_
            refine g_iload_n rfl ld_1 127 rfl dX1_split_126 ?_
            refine g_imulN (a := 7) (c := j) (show (7 : Int32) = nI 7 from rfl) rfl 128 rfl dX1_split_127 ?_
            refine g_iconst (v := 3) (by decide) 129 rfl dX1_split_128 ?_
            refine g_iaddN (a := (7 * j)) (c := 3) rfl (show (3 : Int32) = nI 3 from rfl) 130 rfl dX1_split_129 ?_
            refine g_iload_n rfl ld_2 131 rfl dX1_split_130 ?_
            refine g_iaddN (a := ((7 * j) + 3)) (c := q) rfl rfl 132 rfl dX1_split_131 ?_
            refine g_iload_n rfl ld_3 133 rfl dX1_split_132 ?_
            refine gm_astU (j := (((7 * j) + 3) + q)) 0 (by decide) (by decide) hM rfl (by simp only [msz]; omega) 134 rfl dX1_split_133 (fun σ hM => ?_)
            refine g_iload ld_4 136 rfl dX1_split_134 ?_
            have e9 : splitM F A c (nI j) (nI q) at0 = (nI (lowR (A 0)), upd F 2 (nI (kc c + 1)), uA (uA (uA A 1 (keepP (A 1) (A 0) c)) 7 (upd (tr6 (A 7) ((A 0) (7 * j)) ((A 0) (7 * j + 1)) ((A 0) (7 * j + 2)) ((A 0) (7 * j + 3)) ((A 0) (7 * j + 4)) ((A 0) (7 * j + 5))) q at0)) 0 (upd (layW (A 0) (upd (tr6 (A 7) ((A 0) (7 * j)) ((A 0) (7 * j + 1)) ((A 0) (7 * j + 2)) ((A 0) (7 * j + 3)) ((A 0) (7 * j + 4)) ((A 0) (7 * j + 5))) q at0) (lowR (A 0))) ((((7 * j) + 3) + q)) at0)) := by simp [splitM, splT, kpF, *]
            exact g_iret hR rfl (Nat.le_of_ble_eq_true rfl) (Nat.le_of_ble_eq_true rfl) ⟨_, rfl, by rw [e9], by rw [e9]; exact hM⟩ dX1_split_136
          · refine g_bipush (v := -104) (by decide) 60 rfl dX1_split_58 ?_
            have e9 : splitM F A c (nI j) (nI q) at0 = ((-104 : Int32), F, A) := by simp [splitM, splT, kpF, *]
            exact g_iret hR rfl (Nat.le_of_ble_eq_true rfl) (Nat.le_of_ble_eq_true rfl) ⟨_, rfl, by rw [e9], by rw [e9]; exact hM⟩ dX1_split_60
        · refine g_bipush (v := -102) (by decide) 44 rfl dX1_split_42 ?_
          have e9 : splitM F A c (nI j) (nI q) at0 = ((-102 : Int32), F, A) := by simp [splitM, splT, kpF, *]
          exact g_iret hR rfl (Nat.le_of_ble_eq_true rfl) (Nat.le_of_ble_eq_true rfl) ⟨_, rfl, by rw [e9], by rw [e9]; exact hM⟩ dX1_split_44
  · refine g_bipush (v := -101) (by decide) 10 rfl dX1_split_8 ?_
    have e9 : splitM F A c v ax at0 = ((-101 : Int32), F, A) := by simp [splitM, splT, kpF, *]
    exact g_iret hR rfl (Nat.le_of_ble_eq_true rfl) (Nat.le_of_ble_eq_true rfl) ⟨_, rfl, by rw [e9], by rw [e9]; exact hM⟩ dX1_split_10
def rotT (t w : Nat → Int32) (i : Nat) : Nat → Int32 := tr6 t (32 - w (7 * i + 4)) (w (7 * i)) (w (7 * i + 2)) (32 - w (7 * i + 1)) (w (7 * i + 3)) (w (7 * i + 5))
def tnP (t w : Nat → Int32) : Nat → (Nat → Int32) × (Nat → Int32)
  | 0 => (t, w)
  | i + 1 => if isBx (tnP t w i).2 (nI i) = true then (rotT (tnP t w i).1 (tnP t w i).2 i, layW (tnP t w i).2 (rotT (tnP t w i).1 (tnP t w i).2 i) i) else tnP t w i
def turnM (F : Nat → Int32) (A : Nat → Nat → Int32) (c : Nat) : MS := (manyR (tnP (A 7) (A 0) 12).2, kpF F c, uA (uA (uA A 1 (keepP (A 1) (A 0) c)) 7 (tnP (A 7) (A 0) 12).1) 0 (tnP (A 7) (A 0) 12).2)
def rX1_turn : Room := { frames := 3, cells := 0, slots := 0, locals := 55 }
theorem k_X1_turn : CV yX1_turn cX1_turn 3 (some .int) 0 := ⟨q1823, q1824, q81, q1825, by decide +kernel, by decide +kernel, by decide +kernel⟩
set_option maxHeartbeats 1000000 in
theorem c_X1_turn (l : Launch) (D : DD) (b : Nat) {h : Nat} {ad : Nat → Nat} {σ0 : Hp} {F : Nat → Int32} {A : Nat → Nat → Int32} {σ : Hp} (hM : MW D h ad σ0 F A σ) (c : Nat) (hc : F 2 = nI c) (hc8 : c ≤ 8) : CM l yX1_turn cX1_turn 3 (some .int) rX1_turn D b [.ref h] σ (PI (fun r σ' => r = (turnM F A c).1 ∧ MW D h ad σ0 (turnM F A c).2.1 (turnM F A c).2.2 σ')) := by
  refine CM_of [some (.ref h), none, none] RX1 (by decide) rfl (cat_all rfl) (Nat.le_of_ble_eq_true rfl) rfl ?_
  intro z hz hR hnm
  refine g_aload_n rfl ld_0 1 rfl dX1_turn_0 ?_
  refine g_callV (As := []) (rest := []) (ci := 1) (v_X1_keep z.l D b hM (w0 := A 0) rfl (w1 := A 1) rfl c hc hc8) k_X1_keep q1773 hM.1 rfl rfl rfl rfl (Nat.le_of_ble_eq_true rfl) ⟨Nat.le_of_ble_eq_true rfl, Nat.le_of_ble_eq_true rfl⟩ 0 0 (Nat.le_of_ble_eq_true rfl) (Nat.le_of_ble_eq_true rfl) (Nat.le_of_ble_eq_true rfl) (Nat.le_of_ble_eq_true rfl) 4 rfl dX1_turn_1 (fun v σ1 hq => ?_)
  obtain ⟨rfl, hM⟩ := hq
  revert σ1
  intro σ hM
  refine g_iconst (v := 0) (by decide) 5 rfl dX1_turn_4 ?_
  refine g_istore_n rfl sa_1 6 rfl dX1_turn_5 ?_
  have lp6 : ∀ (fu i : Nat) (σ : Hp), i ≤ 12 → 12 + 1 ≤ i + fu → MW D h ad σ0 (upd F 2 (nI (kc c + 1))) (uA (uA (uA A 1 (keepP (A 1) (A 0) c)) 7 ((tnP (A 7) (A 0) i).1)) 0 ((tnP (A 7) (A 0) i).2)) σ → G z cX1_turn RX1 3 rX1_turn D b σ 0 0 6 [some (.ref h), some (.int (nI i)), none] [] := by
    intro fu
    induction fu with
    | zero => intros; omega
    | succ fu ih6 =>
      intro i σ hi hf  hM
      refine g_iload_n rfl ld_1 7 rfl dX1_turn_6 ?_
      refine g_bipush (v := 12) (by decide) 9 rfl dX1_turn_7 ?_
      refine g_icmp_geN (a := i) (c := 12) rfl (show (12 : Int32) = nI 12 from rfl) (by omega) (by omega) 78 12 rfl (by decide) dX1_turn_9 (fun c9 => ?_) (fun c9 => ?_)
      · obtain rfl : i = 12 := by omega
        refine g_aload_n rfl ld_0 79 rfl dX1_turn_78 ?_
        refine g_callV (As := []) (rest := []) (ci := 1) (v_X1_boxes z.l D b hM (w0 := (tnP (A 7) (A 0) 12).2) rfl ) k_X1_boxes q1785 hM.1 rfl rfl rfl rfl (Nat.le_of_ble_eq_true rfl) ⟨Nat.le_of_ble_eq_true rfl, Nat.le_of_ble_eq_true rfl⟩ 0 0 (Nat.le_of_ble_eq_true rfl) (Nat.le_of_ble_eq_true rfl) (Nat.le_of_ble_eq_true rfl) (Nat.le_of_ble_eq_true rfl) 82 rfl dX1_turn_79 (fun v σ1 hq => ?_)
        obtain ⟨rfl, rfl⟩ := hq
        have e9 : turnM F A c = (manyR ((tnP (A 7) (A 0) 12).2), upd F 2 (nI (kc c + 1)), uA (uA (uA A 1 (keepP (A 1) (A 0) c)) 7 ((tnP (A 7) (A 0) 12).1)) 0 ((tnP (A 7) (A 0) 12).2)) := by simp [turnM, kpF]
        exact g_iret hR rfl (Nat.le_of_ble_eq_true rfl) (Nat.le_of_ble_eq_true rfl) ⟨_, rfl, by rw [e9], by rw [e9]; exact hM⟩ dX1_turn_82
      · refine g_aload_n rfl ld_0 13 rfl dX1_turn_12 ?_
        refine g_iload_n rfl ld_1 14 rfl dX1_turn_13 ?_
        refine g_callV (As := [.int (nI i)]) (rest := []) (ci := 1) (v_X1_isBox z.l D b hM (w0 := (tnP (A 7) (A 0) i).2) rfl (nI i)) k_X1_isBox q1759 hM.1 rfl rfl rfl rfl (Nat.le_of_ble_eq_true rfl) ⟨Nat.le_of_ble_eq_true rfl, Nat.le_of_ble_eq_true rfl⟩ 0 0 (Nat.le_of_ble_eq_true rfl) (Nat.le_of_ble_eq_true rfl) (Nat.le_of_ble_eq_true rfl) (Nat.le_of_ble_eq_true rfl) 17 rfl dX1_turn_14 (fun v σ1 hq => ?_)
        obtain ⟨rfl, rfl⟩ := hq
        refine g_if_eqB 72 20 rfl (by decide) dX1_turn_17 (fun c17 => ?_) (fun c17 => ?_)
        · refine g_iinc (v := nI (i + 1)) ld_1 (nI_1 _) sa_1 75 rfl dX1_turn_72 ?_
          refine g_goto 6 (by decide) dX1_turn_75 ?_
          have hM : MW D h ad σ0 (upd F 2 (nI (kc c + 1))) (uA (uA (uA A 1 (keepP (A 1) (A 0) c)) 7 ((tnP (A 7) (A 0) ((i + 1))).1)) 0 ((tnP (A 7) (A 0) ((i + 1))).2)) σ := by
            have e2 : uA (uA (uA A 1 (keepP (A 1) (A 0) c)) 7 ((tnP (A 7) (A 0) ((i + 1))).1)) 0 ((tnP (A 7) (A 0) ((i + 1))).2) = uA (uA (uA A 1 (keepP (A 1) (A 0) c)) 7 ((tnP (A 7) (A 0) i).1)) 0 ((tnP (A 7) (A 0) i).2) := by simp [tnP, rotT, *]
            rw [e2]; exact hM
          exact ih6 (i + 1) σ (by omega) (by omega)  hM
        · refine g_aload_n rfl ld_0 21 rfl dX1_turn_20 ?_
          refine g_bipush (v := 32) (by decide) 23 rfl dX1_turn_21 ?_
          refine g_aload_n rfl ld_0 24 rfl dX1_turn_23 ?_
          refine g_iload_n rfl ld_1 25 rfl dX1_turn_24 ?_
          refine g_iconst (v := 4) (by decide) 26 rfl dX1_turn_25 ?_
          refine g_callV (As := [.int (nI i), .int ((4 : Int32))]) (rest := [.int ((32 : Int32)), .ref h]) (ci := 1) (v_X1_of z.l D b hM (w0 := (tnP (A 7) (A 0) i).2) rfl i 4 (by omega)) k_X1_of q1793 hM.1 rfl rfl rfl rfl (Nat.le_of_ble_eq_true rfl) ⟨Nat.le_of_ble_eq_true rfl, Nat.le_of_ble_eq_true rfl⟩ 0 0 (Nat.le_of_ble_eq_true rfl) (Nat.le_of_ble_eq_true rfl) (Nat.le_of_ble_eq_true rfl) (Nat.le_of_ble_eq_true rfl) 29 rfl dX1_turn_26 (fun v σ1 hq => ?_)
          obtain ⟨rfl, rfl⟩ := hq
          refine g_isub 30 rfl dX1_turn_29 ?_
          refine g_aload_n rfl ld_0 31 rfl dX1_turn_30 ?_
          refine g_iload_n rfl ld_1 32 rfl dX1_turn_31 ?_
          refine g_iconst (v := 0) (by decide) 33 rfl dX1_turn_32 ?_
          refine g_callV (As := [.int (nI i), .int ((0 : Int32))]) (rest := [.int (((32 : Int32)) - (((tnP (A 7) (A 0) i).2) (7 * i + 4))), .ref h]) (ci := 1) (v_X1_of z.l D b hM (w0 := (tnP (A 7) (A 0) i).2) rfl i 0 (by omega)) k_X1_of q1793 hM.1 rfl rfl rfl rfl (Nat.le_of_ble_eq_true rfl) ⟨Nat.le_of_ble_eq_true rfl, Nat.le_of_ble_eq_true rfl⟩ 0 0 (Nat.le_of_ble_eq_true rfl) (Nat.le_of_ble_eq_true rfl) (Nat.le_of_ble_eq_true rfl) (Nat.le_of_ble_eq_true rfl) 36 rfl dX1_turn_33 (fun v σ1 hq => ?_)
          obtain ⟨rfl, rfl⟩ := hq
          refine g_aload_n rfl ld_0 37 rfl dX1_turn_36 ?_
          refine g_iload_n rfl ld_1 38 rfl dX1_turn_37 ?_
          refine g_iconst (v := 2) (by decide) 39 rfl dX1_turn_38 ?_
          refine g_callV (As := [.int (nI i), .int ((2 : Int32))]) (rest := [.int (((tnP (A 7) (A 0) i).2) (7 * i)), .int (((32 : Int32)) - (((tnP (A 7) (A 0) i).2) (7 * i + 4))), .ref h]) (ci := 1) (v_X1_of z.l D b hM (w0 := (tnP (A 7) (A 0) i).2) rfl i 2 (by omega)) k_X1_of q1793 hM.1 rfl rfl rfl rfl (Nat.le_of_ble_eq_true rfl) ⟨Nat.le_of_ble_eq_true rfl, Nat.le_of_ble_eq_true rfl⟩ 0 0 (Nat.le_of_ble_eq_true rfl) (Nat.le_of_ble_eq_true rfl) (Nat.le_of_ble_eq_true rfl) (Nat.le_of_ble_eq_true rfl) 42 rfl dX1_turn_39 (fun v σ1 hq => ?_)
          obtain ⟨rfl, rfl⟩ := hq
          refine g_bipush (v := 32) (by decide) 44 rfl dX1_turn_42 ?_
          refine g_aload_n rfl ld_0 45 rfl dX1_turn_44 ?_
          refine g_iload_n rfl ld_1 46 rfl dX1_turn_45 ?_
          refine g_iconst (v := 1) (by decide) 47 rfl dX1_turn_46 ?_
          refine g_callV (As := [.int (nI i), .int ((1 : Int32))]) (rest := [.int ((32 : Int32)), .int (((tnP (A 7) (A 0) i).2) (7 * i + 2)), .int (((tnP (A 7) (A 0) i).2) (7 * i)), .int (((32 : Int32)) - (((tnP (A 7) (A 0) i).2) (7 * i + 4))), .ref h]) (ci := 1) (v_X1_of z.l D b hM (w0 := (tnP (A 7) (A 0) i).2) rfl i 1 (by omega)) k_X1_of q1793 hM.1 rfl rfl rfl rfl (Nat.le_of_ble_eq_true rfl) ⟨Nat.le_of_ble_eq_true rfl, Nat.le_of_ble_eq_true rfl⟩ 0 0 (Nat.le_of_ble_eq_true rfl) (Nat.le_of_ble_eq_true rfl) (Nat.le_of_ble_eq_true rfl) (Nat.le_of_ble_eq_true rfl) 50 rfl dX1_turn_47 (fun v σ1 hq => ?_)
          obtain ⟨rfl, rfl⟩ := hq
          refine g_isub 51 rfl dX1_turn_50 ?_
          refine g_aload_n rfl ld_0 52 rfl dX1_turn_51 ?_
          refine g_iload_n rfl ld_1 53 rfl dX1_turn_52 ?_
          refine g_iconst (v := 3) (by decide) 54 rfl dX1_turn_53 ?_
          refine g_callV (As := [.int (nI i), .int ((3 : Int32))]) (rest := [.int (((32 : Int32)) - (((tnP (A 7) (A 0) i).2) (7 * i + 1))), .int (((tnP (A 7) (A 0) i).2) (7 * i + 2)), .int (((tnP (A 7) (A 0) i).2) (7 * i)), .int (((32 : Int32)) - (((tnP (A 7) (A 0) i).2) (7 * i + 4))), .ref h]) (ci := 1) (v_X1_of z.l D b hM (w0 := (tnP (A 7) (A 0) i).2) rfl i 3 (by omega)) k_X1_of q1793 hM.1 rfl rfl rfl rfl (Nat.le_of_ble_eq_true rfl) ⟨Nat.le_of_ble_eq_true rfl, Nat.le_of_ble_eq_true rfl⟩ 0 0 (Nat.le_of_ble_eq_true rfl) (Nat.le_of_ble_eq_true rfl) (Nat.le_of_ble_eq_true rfl) (Nat.le_of_ble_eq_true rfl) 57 rfl dX1_turn_54 (fun v σ1 hq => ?_)
          obtain ⟨rfl, rfl⟩ := hq
          refine g_aload_n rfl ld_0 58 rfl dX1_turn_57 ?_
          refine g_iload_n rfl ld_1 59 rfl dX1_turn_58 ?_
          refine g_iconst (v := 5) (by decide) 60 rfl dX1_turn_59 ?_
          refine g_callV (As := [.int (nI i), .int ((5 : Int32))]) (rest := [.int (((tnP (A 7) (A 0) i).2) (7 * i + 3)), .int (((32 : Int32)) - (((tnP (A 7) (A 0) i).2) (7 * i + 1))), .int (((tnP (A 7) (A 0) i).2) (7 * i + 2)), .int (((tnP (A 7) (A 0) i).2) (7 * i)), .int (((32 : Int32)) - (((tnP (A 7) (A 0) i).2) (7 * i + 4))), .ref h]) (ci := 1) (v_X1_of z.l D b hM (w0 := (tnP (A 7) (A 0) i).2) rfl i 5 (by omega)) k_X1_of q1793 hM.1 rfl rfl rfl rfl (Nat.le_of_ble_eq_true rfl) ⟨Nat.le_of_ble_eq_true rfl, Nat.le_of_ble_eq_true rfl⟩ 0 0 (Nat.le_of_ble_eq_true rfl) (Nat.le_of_ble_eq_true rfl) (Nat.le_of_ble_eq_true rfl) (Nat.le_of_ble_eq_true rfl) 63 rfl dX1_turn_60 (fun v σ1 hq => ?_)
          obtain ⟨rfl, rfl⟩ := hq
          refine g_callV (As := [.int (((32 : Int32)) - (((tnP (A 7) (A 0) i).2) (7 * i + 4))), .int (((tnP (A 7) (A 0) i).2) (7 * i)), .int (((tnP (A 7) (A 0) i).2) (7 * i + 2)), .int (((32 : Int32)) - (((tnP (A 7) (A 0) i).2) (7 * i + 1))), .int (((tnP (A 7) (A 0) i).2) (7 * i + 3)), .int (((tnP (A 7) (A 0) i).2) (7 * i + 5))]) (rest := []) (ci := 1) (v_X1_isTrial z.l D b hM (w7 := (tnP (A 7) (A 0) i).1) rfl (((32 : Int32)) - (((tnP (A 7) (A 0) i).2) (7 * i + 4))) (((tnP (A 7) (A 0) i).2) (7 * i)) (((tnP (A 7) (A 0) i).2) (7 * i + 2)) (((32 : Int32)) - (((tnP (A 7) (A 0) i).2) (7 * i + 1))) (((tnP (A 7) (A 0) i).2) (7 * i + 3)) (((tnP (A 7) (A 0) i).2) (7 * i + 5))) k_X1_isTrial q1751 hM.1 rfl rfl rfl rfl (Nat.le_of_ble_eq_true rfl) ⟨Nat.le_of_ble_eq_true rfl, Nat.le_of_ble_eq_true rfl⟩ 0 0 (Nat.le_of_ble_eq_true rfl) (Nat.le_of_ble_eq_true rfl) (Nat.le_of_ble_eq_true rfl) (Nat.le_of_ble_eq_true rfl) 66 rfl dX1_turn_63 (fun v σ1 hq => ?_)
          obtain ⟨_, rfl, rfl, hM⟩ := hq
          revert σ1
          intro σ hM
          have hM : MW D h ad σ0 (upd F 2 (nI (kc c + 1))) (uA (uA (uA A 1 (keepP (A 1) (A 0) c)) 0 ((tnP (A 7) (A 0) i).2)) 7 (tr6 ((tnP (A 7) (A 0) i).1) (((32 : Int32)) - (((tnP (A 7) (A 0) i).2) (7 * i + 4))) (((tnP (A 7) (A 0) i).2) (7 * i)) (((tnP (A 7) (A 0) i).2) (7 * i + 2)) (((32 : Int32)) - (((tnP (A 7) (A 0) i).2) (7 * i + 1))) (((tnP (A 7) (A 0) i).2) (7 * i + 3)) (((tnP (A 7) (A 0) i).2) (7 * i + 5)))) σ := by
            have e9 : uA (uA (uA A 1 (keepP (A 1) (A 0) c)) 0 ((tnP (A 7) (A 0) i).2)) 7 (tr6 ((tnP (A 7) (A 0) i).1) (((32 : Int32)) - (((tnP (A 7) (A 0) i).2) (7 * i + 4))) (((tnP (A 7) (A 0) i).2) (7 * i)) (((tnP (A 7) (A 0) i).2) (7 * i + 2)) (((32 : Int32)) - (((tnP (A 7) (A 0) i).2) (7 * i + 1))) (((tnP (A 7) (A 0) i).2) (7 * i + 3)) (((tnP (A 7) (A 0) i).2) (7 * i + 5))) = uA (uA (uA (uA A 1 (keepP (A 1) (A 0) c)) 7 ((tnP (A 7) (A 0) i).1)) 0 ((tnP (A 7) (A 0) i).2)) 7 (tr6 ((tnP (A 7) (A 0) i).1) (((32 : Int32)) - (((tnP (A 7) (A 0) i).2) (7 * i + 4))) (((tnP (A 7) (A 0) i).2) (7 * i)) (((tnP (A 7) (A 0) i).2) (7 * i + 2)) (((32 : Int32)) - (((tnP (A 7) (A 0) i).2) (7 * i + 1))) (((tnP (A 7) (A 0) i).2) (7 * i + 3)) (((tnP (A 7) (A 0) i).2) (7 * i + 5))) := by funext x9; simp only [uA_ap]; repeat (first | rfl | split)
            rw [e9]; exact hM
          refine g_istore_n rfl sa_2 67 rfl dX1_turn_66 ?_
          refine g_aload_n rfl ld_0 68 rfl dX1_turn_67 ?_
          refine g_iload_n rfl ld_1 69 rfl dX1_turn_68 ?_
          refine g_callV (As := [.int (nI i)]) (rest := []) (ci := 1) (v_X1_lay z.l D b hM (w0 := (tnP (A 7) (A 0) i).2) rfl (w7 := tr6 ((tnP (A 7) (A 0) i).1) (((32 : Int32)) - (((tnP (A 7) (A 0) i).2) (7 * i + 4))) (((tnP (A 7) (A 0) i).2) (7 * i)) (((tnP (A 7) (A 0) i).2) (7 * i + 2)) (((32 : Int32)) - (((tnP (A 7) (A 0) i).2) (7 * i + 1))) (((tnP (A 7) (A 0) i).2) (7 * i + 3)) (((tnP (A 7) (A 0) i).2) (7 * i + 5))) rfl i (by omega)) k_X1_lay q1777 hM.1 rfl rfl rfl rfl (Nat.le_of_ble_eq_true rfl) ⟨Nat.le_of_ble_eq_true rfl, Nat.le_of_ble_eq_true rfl⟩ 0 0 (Nat.le_of_ble_eq_true rfl) (Nat.le_of_ble_eq_true rfl) (Nat.le_of_ble_eq_true rfl) (Nat.le_of_ble_eq_true rfl) 72 rfl dX1_turn_69 (fun v σ1 hq => ?_)
          obtain ⟨rfl, hM⟩ := hq
          revert σ1
          intro σ hM
          have hM : MW D h ad σ0 (upd F 2 (nI (kc c + 1))) (uA (uA (uA A 1 (keepP (A 1) (A 0) c)) 7 (tr6 ((tnP (A 7) (A 0) i).1) (((32 : Int32)) - (((tnP (A 7) (A 0) i).2) (7 * i + 4))) (((tnP (A 7) (A 0) i).2) (7 * i)) (((tnP (A 7) (A 0) i).2) (7 * i + 2)) (((32 : Int32)) - (((tnP (A 7) (A 0) i).2) (7 * i + 1))) (((tnP (A 7) (A 0) i).2) (7 * i + 3)) (((tnP (A 7) (A 0) i).2) (7 * i + 5)))) 0 (layW ((tnP (A 7) (A 0) i).2) (tr6 ((tnP (A 7) (A 0) i).1) (((32 : Int32)) - (((tnP (A 7) (A 0) i).2) (7 * i + 4))) (((tnP (A 7) (A 0) i).2) (7 * i)) (((tnP (A 7) (A 0) i).2) (7 * i + 2)) (((32 : Int32)) - (((tnP (A 7) (A 0) i).2) (7 * i + 1))) (((tnP (A 7) (A 0) i).2) (7 * i + 3)) (((tnP (A 7) (A 0) i).2) (7 * i + 5))) i)) σ := by
            have e9 : uA (uA (uA A 1 (keepP (A 1) (A 0) c)) 7 (tr6 ((tnP (A 7) (A 0) i).1) (((32 : Int32)) - (((tnP (A 7) (A 0) i).2) (7 * i + 4))) (((tnP (A 7) (A 0) i).2) (7 * i)) (((tnP (A 7) (A 0) i).2) (7 * i + 2)) (((32 : Int32)) - (((tnP (A 7) (A 0) i).2) (7 * i + 1))) (((tnP (A 7) (A 0) i).2) (7 * i + 3)) (((tnP (A 7) (A 0) i).2) (7 * i + 5)))) 0 (layW ((tnP (A 7) (A 0) i).2) (tr6 ((tnP (A 7) (A 0) i).1) (((32 : Int32)) - (((tnP (A 7) (A 0) i).2) (7 * i + 4))) (((tnP (A 7) (A 0) i).2) (7 * i)) (((tnP (A 7) (A 0) i).2) (7 * i + 2)) (((32 : Int32)) - (((tnP (A 7) (A 0) i).2) (7 * i + 1))) (((tnP (A 7) (A 0) i).2) (7 * i + 3)) (((tnP (A 7) (A 0) i).2) (7 * i + 5))) i) = uA (uA (uA (uA A 1 (keepP (A 1) (A 0) c)) 0 ((tnP (A 7) (A 0) i).2)) 7 (tr6 ((tnP (A 7) (A 0) i).1) (((32 : Int32)) - (((tnP (A 7) (A 0) i).2) (7 * i + 4))) (((tnP (A 7) (A 0) i).2) (7 * i)) (((tnP (A 7) (A 0) i).2) (7 * i + 2)) (((32 : Int32)) - (((tnP (A 7) (A 0) i).2) (7 * i + 1))) (((tnP (A 7) (A 0) i).2) (7 * i + 3)) (((tnP (A 7) (A 0) i).2) (7 * i + 5)))) 0 (layW ((tnP (A 7) (A 0) i).2) (tr6 ((tnP (A 7) (A 0) i).1) (((32 : Int32)) - (((tnP (A 7) (A 0) i).2) (7 * i + 4))) (((tnP (A 7) (A 0) i).2) (7 * i)) (((tnP (A 7) (A 0) i).2) (7 * i + 2)) (((32 : Int32)) - (((tnP (A 7) (A 0) i).2) (7 * i + 1))) (((tnP (A 7) (A 0) i).2) (7 * i + 3)) (((tnP (A 7) (A 0) i).2) (7 * i + 5))) i) := by funext x9; simp only [uA_ap]; repeat (first | rfl | split)
            rw [e9]; exact hM
          refine g_iinc (v := nI (i + 1)) ld_1 (nI_1 _) sa_1 75 rfl dX1_turn_72 ?_
          refine g_goto 6 (by decide) dX1_turn_75 ?_
          refine G_lv dr_2 ?_
          have hM : MW D h ad σ0 (upd F 2 (nI (kc c + 1))) (uA (uA (uA A 1 (keepP (A 1) (A 0) c)) 7 ((tnP (A 7) (A 0) ((i + 1))).1)) 0 ((tnP (A 7) (A 0) ((i + 1))).2)) σ := by
            have e2 : uA (uA (uA A 1 (keepP (A 1) (A 0) c)) 7 ((tnP (A 7) (A 0) ((i + 1))).1)) 0 ((tnP (A 7) (A 0) ((i + 1))).2) = uA (uA (uA A 1 (keepP (A 1) (A 0) c)) 7 (tr6 ((tnP (A 7) (A 0) i).1) (((32 : Int32)) - (((tnP (A 7) (A 0) i).2) (7 * i + 4))) (((tnP (A 7) (A 0) i).2) (7 * i)) (((tnP (A 7) (A 0) i).2) (7 * i + 2)) (((32 : Int32)) - (((tnP (A 7) (A 0) i).2) (7 * i + 1))) (((tnP (A 7) (A 0) i).2) (7 * i + 3)) (((tnP (A 7) (A 0) i).2) (7 * i + 5)))) 0 (layW ((tnP (A 7) (A 0) i).2) (tr6 ((tnP (A 7) (A 0) i).1) (((32 : Int32)) - (((tnP (A 7) (A 0) i).2) (7 * i + 4))) (((tnP (A 7) (A 0) i).2) (7 * i)) (((tnP (A 7) (A 0) i).2) (7 * i + 2)) (((32 : Int32)) - (((tnP (A 7) (A 0) i).2) (7 * i + 1))) (((tnP (A 7) (A 0) i).2) (7 * i + 3)) (((tnP (A 7) (A 0) i).2) (7 * i + 5))) i) := by simp [tnP, rotT, *]
            rw [e2]; exact hM
          exact ih6 (i + 1) σ (by omega) (by omega)  hM
  have hM : MW D h ad σ0 (upd F 2 (nI (kc c + 1))) (uA (uA (uA A 1 (keepP (A 1) (A 0) c)) 7 ((tnP (A 7) (A 0) 0).1)) 0 ((tnP (A 7) (A 0) 0).2)) σ := by
    have e2 : uA (uA (uA A 1 (keepP (A 1) (A 0) c)) 7 ((tnP (A 7) (A 0) 0).1)) 0 ((tnP (A 7) (A 0) 0).2) = uA A 1 (keepP (A 1) (A 0) c) := by funext x9; by_cases h0 : x9 = 0 <;> by_cases h7 : x9 = 7 <;> simp [uA_ap, tnP, *]
    rw [e2]; exact hM
  exact lp6 (12 + 1) 0 σ (by omega) (by omega)  hM
def tcO (w : Nat → Int32) (j q x o : Nat) : Bool := decide (o = x) || shR (w (7 * j + o)) (w (7 * j + (o + 3))) (w (7 * q + o)) (w (7 * q + (o + 3)))
def tc0 (w : Nat → Int32) (j q x : Nat) : Bool := decide (w (7 * j + (x + 3)) = w (7 * q + x)) || decide (w (7 * q + (x + 3)) = w (7 * j + x))
def tcA (w : Nat → Int32) (j q x : Nat) : Bool := tc0 w j q x && al (tcO w j q x) 3
def la (p : Nat → Bool) (d : Int32) : Nat → Int32
  | 0 => d
  | n + 1 => if p n = true then nI n else la p d n
def touchR (w : Nat → Int32) (u v : Int32) : Int32 := if (isBx w u && isBx w v) = true then la (fun x => tcA w u.toNatClampNeg v.toNatClampNeg x && !decide (u.toNatClampNeg = v.toNatClampNeg)) (-106) 3 else -101
def rX1_touching : Room := { frames := 3, cells := 0, slots := 0, locals := 55 }
theorem k_X1_touching : CV yX1_touching cX1_touching 7 (some .int) 2 := ⟨q1853, q1854, q81, q1855, by decide +kernel, by decide +kernel, by decide +kernel⟩
set_option maxHeartbeats 1000000 in
theorem c_X1_touching (l : Launch) (D : DD) (b : Nat) {h : Nat} {ad : Nat → Nat} {σ0 : Hp} {F : Nat → Int32} {A : Nat → Nat → Int32} {σ : Hp} (hM : MW D h ad σ0 F A σ) (u v : Int32) : CM l yX1_touching cX1_touching 7 (some .int) rX1_touching D b [.ref h, .int u, .int v] σ (PIx (touchR (A 0) u v) σ) := by
  refine CM_of [some (.ref h), some (.int u), some (.int v), none, none, none, none] RX1 (by decide) rfl (cat_all rfl) (Nat.le_of_ble_eq_true rfl) rfl ?_
  intro z hz hR hnm
  refine g_aload_n rfl ld_0 1 rfl dX1_touching_0 ?_
  refine g_iload_n rfl ld_1 2 rfl dX1_touching_1 ?_
  refine g_callV (As := [.int u]) (rest := []) (ci := 1) (v_X1_isBox z.l D b hM (w0 := A 0) rfl u) k_X1_isBox q1759 hM.1 rfl rfl rfl rfl (Nat.le_of_ble_eq_true rfl) ⟨Nat.le_of_ble_eq_true rfl, Nat.le_of_ble_eq_true rfl⟩ 0 0 (Nat.le_of_ble_eq_true rfl) (Nat.le_of_ble_eq_true rfl) (Nat.le_of_ble_eq_true rfl) (Nat.le_of_ble_eq_true rfl) 5 rfl dX1_touching_2 (fun v σ1 hq => ?_)
  obtain ⟨rfl, rfl⟩ := hq
  refine g_if_eqB 16 8 rfl (by decide) dX1_touching_5 (fun c5 => ?_) (fun c5 => ?_)
  · refine g_bipush (v := -101) (by decide) 18 rfl dX1_touching_16 ?_
    exact g_iret hR rfl (Nat.le_of_ble_eq_true rfl) (Nat.le_of_ble_eq_true rfl) ⟨congrArg (fun p => some (Value.int p)) (show (-101 : Int32) = touchR (A 0) u v from by simp [touchR, *]), rfl⟩ dX1_touching_18
  · refine g_aload_n rfl ld_0 9 rfl dX1_touching_8 ?_
    refine g_iload_n rfl ld_2 10 rfl dX1_touching_9 ?_
    refine g_callV (As := [.int v]) (rest := []) (ci := 1) (v_X1_isBox z.l D b hM (w0 := A 0) rfl v) k_X1_isBox q1759 hM.1 rfl rfl rfl rfl (Nat.le_of_ble_eq_true rfl) ⟨Nat.le_of_ble_eq_true rfl, Nat.le_of_ble_eq_true rfl⟩ 0 0 (Nat.le_of_ble_eq_true rfl) (Nat.le_of_ble_eq_true rfl) (Nat.le_of_ble_eq_true rfl) (Nat.le_of_ble_eq_true rfl) 13 rfl dX1_touching_10 (fun v σ1 hq => ?_)
    obtain ⟨rfl, rfl⟩ := hq
    refine g_if_neB 19 16 rfl (by decide) dX1_touching_13 (fun c13 => ?_) (fun c13 => ?_)
    · obtain ⟨j, hj, rfl, hwj⟩ := isBx_in c5
      have hclj := nI_clamp (show j < 2 ^ 31 by omega)
      obtain ⟨q, hq, rfl, hwq⟩ := isBx_in c13
      have hclq := nI_clamp (show q < 2 ^ 31 by omega)
      refine g_bipush (v := -106) (by decide) 21 rfl dX1_touching_19 ?_
      refine g_istore_n rfl sa_3 22 rfl dX1_touching_21 ?_
      refine g_iconst (v := 0) (by decide) 23 rfl dX1_touching_22 ?_
      refine g_istore sa_4 25 rfl dX1_touching_23 ?_
      have lp25 : ∀ (fu i : Nat) (x3 : Int32), i ≤ 3 → 3 + 1 ≤ i + fu → (x3 = la (fun x => tcA (A 0) j q x && !decide (j = q)) (-106) i) → G z cX1_touching RX1 7 rX1_touching D b σ 0 0 25 [some (.ref h), some (.int (nI j)), some (.int (nI q)), some (.int x3), some (.int (nI i)), none, none] [] := by
        intro fu
        induction fu with
        | zero => intros; omega
        | succ fu ih25 =>
          intro i x3 hi hf hx
          refine g_iload ld_4 27 rfl dX1_touching_25 ?_
          refine g_iconst (v := 3) (by decide) 28 rfl dX1_touching_27 ?_
          refine g_icmp_geN (a := i) (c := 3) rfl (show (3 : Int32) = nI 3 from rfl) (by omega) (by omega) 169 31 rfl (by decide) dX1_touching_28 (fun c28 => ?_) (fun c28 => ?_)
          · refine g_iload_n rfl ld_3 170 rfl dX1_touching_169 ?_
            exact g_iret hR rfl (Nat.le_of_ble_eq_true rfl) (Nat.le_of_ble_eq_true rfl) ⟨congrArg (fun p => some (Value.int p)) (show x3 = touchR (A 0) (nI j) (nI q) from by obtain rfl : i = 3 := (by omega); simp only [touchR, c5, c13, hclj, hclq, Bool.and_self, if_true]; exact hx), rfl⟩ dX1_touching_170
          · have j74 : ∀ y : Int32, y = bI (tc0 (A 0) j q i) → G z cX1_touching RX1 7 rX1_touching D b σ 0 0 74 [some (.ref h), some (.int (nI j)), some (.int (nI q)), some (.int x3), some (.int (nI i)), none, none] [.int y] := by
              intro y hy
              refine g_istore sa_5 76 rfl dX1_touching_74 ?_
              refine g_iconst (v := 0) (by decide) 77 rfl dX1_touching_76 ?_
              refine g_istore sa_6 79 rfl dX1_touching_77 ?_
              have lp79 : ∀ (fu k : Nat) (x5 : Int32), k ≤ 3 → 3 + 1 ≤ k + fu → (x5 = bI (tc0 (A 0) j q i && al (tcO (A 0) j q i) k)) → G z cX1_touching RX1 7 rX1_touching D b σ 0 0 79 [some (.ref h), some (.int (nI j)), some (.int (nI q)), some (.int x3), some (.int (nI i)), some (.int x5), some (.int (nI k))] [] := by
                intro fu
                induction fu with
                | zero => intros; omega
                | succ fu ih79 =>
                  intro k x5 hk hf hz2
                  refine g_iload ld_6 81 rfl dX1_touching_79 ?_
                  refine g_iconst (v := 3) (by decide) 82 rfl dX1_touching_81 ?_
                  refine g_icmp_geN (a := k) (c := 3) rfl (show (3 : Int32) = nI 3 from rfl) (by omega) (by omega) 146 85 rfl (by decide) dX1_touching_82 (fun c82 => ?_) (fun c82 => ?_)
                  · obtain rfl : k = 3 := by omega
                    rw [← tcA] at hz2
                    subst hz2
                    have j162 : ∀ s : Int32, s = (if (tcA (A 0) j q i && !decide (j = q)) = true then nI i else x3) → G z cX1_touching RX1 7 rX1_touching D b σ 0 0 162 [some (.ref h), some (.int (nI j)), some (.int (nI q)), some (.int x3), some (.int (nI i)), some (.int (bI (tcA (A 0) j q i))), some (.int (nI 3))] [.int s] := by
                      intro s hs
                      refine g_istore_n rfl sa_3 163 rfl dX1_touching_162 ?_
                      refine g_iinc (v := nI (i + 1)) ld_4 (nI_1 _) sa_4 166 rfl dX1_touching_163 ?_
                      refine g_goto 25 (by decide) dX1_touching_166 ?_
                      refine G_lv dr_5 ?_
                      refine G_lv dr_6 ?_
                      exact ih25 (i + 1) s (by omega) (by omega) (by rw [hs, hx, la])
                    refine g_iload ld_5 148 rfl dX1_touching_146 ?_
                    refine g_if_eqB 161 151 rfl (by decide) dX1_touching_148 (fun c148 => ?_) (fun c148 => ?_)
                    · refine g_iload_n rfl ld_3 162 rfl dX1_touching_161 ?_
                      exact j162 x3 (by simp [*])
                    · refine g_iload_n rfl ld_1 152 rfl dX1_touching_151 ?_
                      refine g_iload_n rfl ld_2 153 rfl dX1_touching_152 ?_
                      refine g_icmp_eqN (a := j) (c := q) rfl rfl (by omega) (by omega) 161 156 rfl (by decide) dX1_touching_153 (fun c153 => ?_) (fun c153 => ?_)
                      · refine g_iload_n rfl ld_3 162 rfl dX1_touching_161 ?_
                        exact j162 x3 (by simp [*])
                      · refine g_iload ld_4 158 rfl dX1_touching_156 ?_
                        refine g_goto 162 (by decide) dX1_touching_158 ?_
                        exact j162 (nI i) (by simp [*])
                  · refine g_iload ld_5 87 rfl dX1_touching_85 ?_
                    have j137 : ∀ u : Int32, u = bI (tcO (A 0) j q i k) → G z cX1_touching RX1 7 rX1_touching D b σ 0 0 137 [some (.ref h), some (.int (nI j)), some (.int (nI q)), some (.int x3), some (.int (nI i)), some (.int x5), some (.int (nI k))] [.int u, .int x5] := by
                      intro u hu
                      refine g_iand 138 rfl dX1_touching_137 ?_
                      refine g_istore sa_5 140 rfl dX1_touching_138 ?_
                      refine g_iinc (v := nI (k + 1)) ld_6 (nI_1 _) sa_6 143 rfl dX1_touching_140 ?_
                      refine g_goto 79 (by decide) dX1_touching_143 ?_
                      exact ih79 (k + 1) (x5 &&& u) (by omega) (by omega) (by rw [hz2, hu, bI_and, al, Bool.and_assoc])
                    refine g_iload ld_6 89 rfl dX1_touching_87 ?_
                    refine g_iload ld_4 91 rfl dX1_touching_89 ?_
                    refine g_icmp_eqN (a := k) (c := i) rfl rfl (by omega) (by omega) 132 94 rfl (by decide) dX1_touching_91 (fun c91 => ?_) (fun c91 => ?_)
                    · refine g_iconst (v := 1) (by decide) 133 rfl dX1_touching_132 ?_
                      refine g_goto 137 (by decide) dX1_touching_133 ?_
                      exact j137 ((1 : Int32)) (by simp [tcO, *]; first | rfl | decide)
                    · refine g_aload_n rfl ld_0 95 rfl dX1_touching_94 ?_
                      refine g_iload_n rfl ld_1 96 rfl dX1_touching_95 ?_
                      refine g_iload ld_6 98 rfl dX1_touching_96 ?_
                      refine g_callV (As := [.int (nI j), .int (nI k)]) (rest := [.int x5]) (ci := 1) (v_X1_of z.l D b hM (w0 := A 0) rfl j k (by omega)) k_X1_of q1793 hM.1 rfl rfl rfl rfl (Nat.le_of_ble_eq_true rfl) ⟨Nat.le_of_ble_eq_true rfl, Nat.le_of_ble_eq_true rfl⟩ 0 0 (Nat.le_of_ble_eq_true rfl) (Nat.le_of_ble_eq_true rfl) (Nat.le_of_ble_eq_true rfl) (Nat.le_of_ble_eq_true rfl) 101 rfl dX1_touching_98 (fun v σ1 hq => ?_)
                      obtain ⟨rfl, rfl⟩ := hq
                      refine g_aload_n rfl ld_0 102 rfl dX1_touching_101 ?_
                      refine g_iload_n rfl ld_1 103 rfl dX1_touching_102 ?_
                      refine g_iload ld_6 105 rfl dX1_touching_103 ?_
                      refine g_iconst (v := 3) (by decide) 106 rfl dX1_touching_105 ?_
                      refine g_iaddN (a := k) (c := 3) rfl (show (3 : Int32) = nI 3 from rfl) 107 rfl dX1_touching_106 ?_
                      refine g_callV (As := [.int (nI j), .int (nI (k + 3))]) (rest := [.int ((A 0) (7 * j + k)), .int x5]) (ci := 1) (v_X1_of z.l D b hM (w0 := A 0) rfl j (k + 3) (by omega)) k_X1_of q1793 hM.1 rfl rfl rfl rfl (Nat.le_of_ble_eq_true rfl) ⟨Nat.le_of_ble_eq_true rfl, Nat.le_of_ble_eq_true rfl⟩ 0 0 (Nat.le_of_ble_eq_true rfl) (Nat.le_of_ble_eq_true rfl) (Nat.le_of_ble_eq_true rfl) (Nat.le_of_ble_eq_true rfl) 110 rfl dX1_touching_107 (fun v σ1 hq => ?_)
                      obtain ⟨rfl, rfl⟩ := hq
                      refine g_aload_n rfl ld_0 111 rfl dX1_touching_110 ?_
                      refine g_iload_n rfl ld_2 112 rfl dX1_touching_111 ?_
                      refine g_iload ld_6 114 rfl dX1_touching_112 ?_
                      refine g_callV (As := [.int (nI q), .int (nI k)]) (rest := [.int ((A 0) (7 * j + (k + 3))), .int ((A 0) (7 * j + k)), .int x5]) (ci := 1) (v_X1_of z.l D b hM (w0 := A 0) rfl q k (by omega)) k_X1_of q1793 hM.1 rfl rfl rfl rfl (Nat.le_of_ble_eq_true rfl) ⟨Nat.le_of_ble_eq_true rfl, Nat.le_of_ble_eq_true rfl⟩ 0 0 (Nat.le_of_ble_eq_true rfl) (Nat.le_of_ble_eq_true rfl) (Nat.le_of_ble_eq_true rfl) (Nat.le_of_ble_eq_true rfl) 117 rfl dX1_touching_114 (fun v σ1 hq => ?_)
                      obtain ⟨rfl, rfl⟩ := hq
                      refine g_aload_n rfl ld_0 118 rfl dX1_touching_117 ?_
                      refine g_iload_n rfl ld_2 119 rfl dX1_touching_118 ?_
                      refine g_iload ld_6 121 rfl dX1_touching_119 ?_
                      refine g_iconst (v := 3) (by decide) 122 rfl dX1_touching_121 ?_
                      refine g_iaddN (a := k) (c := 3) rfl (show (3 : Int32) = nI 3 from rfl) 123 rfl dX1_touching_122 ?_
                      refine g_callV (As := [.int (nI q), .int (nI (k + 3))]) (rest := [.int ((A 0) (7 * q + k)), .int ((A 0) (7 * j + (k + 3))), .int ((A 0) (7 * j + k)), .int x5]) (ci := 1) (v_X1_of z.l D b hM (w0 := A 0) rfl q (k + 3) (by omega)) k_X1_of q1793 hM.1 rfl rfl rfl rfl (Nat.le_of_ble_eq_true rfl) ⟨Nat.le_of_ble_eq_true rfl, Nat.le_of_ble_eq_true rfl⟩ 0 0 (Nat.le_of_ble_eq_true rfl) (Nat.le_of_ble_eq_true rfl) (Nat.le_of_ble_eq_true rfl) (Nat.le_of_ble_eq_true rfl) 126 rfl dX1_touching_123 (fun v σ1 hq => ?_)
                      obtain ⟨rfl, rfl⟩ := hq
                      refine g_callS (As := [.int ((A 0) (7 * j + k)), .int ((A 0) (7 * j + (k + 3))), .int ((A 0) (7 * q + k)), .int ((A 0) (7 * q + (k + 3)))]) (rest := [.int x5]) (c_X1_share z.l D b (σ := σ) ((A 0) (7 * j + k)) ((A 0) (7 * j + (k + 3))) ((A 0) (7 * q + k)) ((A 0) (7 * q + (k + 3)))) k_X1_share q1815 rfl rfl (Nat.le_of_ble_eq_true rfl) ⟨Nat.le_of_ble_eq_true rfl, Nat.le_of_ble_eq_true rfl⟩ 0 0 (Nat.le_of_ble_eq_true rfl) (Nat.le_of_ble_eq_true rfl) (Nat.le_of_ble_eq_true rfl) (Nat.le_of_ble_eq_true rfl) 129 rfl dX1_touching_126 (fun v σ1 hq => ?_)
                      obtain ⟨rfl, rfl⟩ := hq
                      refine g_if_eqB 136 132 rfl (by decide) dX1_touching_129 (fun c129 => ?_) (fun c129 => ?_)
                      · refine g_iconst (v := 0) (by decide) 137 rfl dX1_touching_136 ?_
                        exact j137 ((0 : Int32)) (by simp [tcO, *]; first | rfl | decide)
                      · refine g_iconst (v := 1) (by decide) 133 rfl dX1_touching_132 ?_
                        refine g_goto 137 (by decide) dX1_touching_133 ?_
                        exact j137 ((1 : Int32)) (by simp [tcO, *]; first | rfl | decide)
              exact lp79 (3 + 1) 0 y (by omega) (by omega) (by rw [hy, al, Bool.and_true])
            refine g_aload_n rfl ld_0 32 rfl dX1_touching_31 ?_
            refine g_iload_n rfl ld_1 33 rfl dX1_touching_32 ?_
            refine g_iload ld_4 35 rfl dX1_touching_33 ?_
            refine g_iconst (v := 3) (by decide) 36 rfl dX1_touching_35 ?_
            refine g_iaddN (a := i) (c := 3) rfl (show (3 : Int32) = nI 3 from rfl) 37 rfl dX1_touching_36 ?_
            refine g_callV (As := [.int (nI j), .int (nI (i + 3))]) (rest := []) (ci := 1) (v_X1_of z.l D b hM (w0 := A 0) rfl j (i + 3) (by omega)) k_X1_of q1793 hM.1 rfl rfl rfl rfl (Nat.le_of_ble_eq_true rfl) ⟨Nat.le_of_ble_eq_true rfl, Nat.le_of_ble_eq_true rfl⟩ 0 0 (Nat.le_of_ble_eq_true rfl) (Nat.le_of_ble_eq_true rfl) (Nat.le_of_ble_eq_true rfl) (Nat.le_of_ble_eq_true rfl) 40 rfl dX1_touching_37 (fun v σ1 hq => ?_)
            obtain ⟨rfl, rfl⟩ := hq
            refine g_aload_n rfl ld_0 41 rfl dX1_touching_40 ?_
            refine g_iload_n rfl ld_2 42 rfl dX1_touching_41 ?_
            refine g_iload ld_4 44 rfl dX1_touching_42 ?_
            refine g_callV (As := [.int (nI q), .int (nI i)]) (rest := [.int ((A 0) (7 * j + (i + 3)))]) (ci := 1) (v_X1_of z.l D b hM (w0 := A 0) rfl q i (by omega)) k_X1_of q1793 hM.1 rfl rfl rfl rfl (Nat.le_of_ble_eq_true rfl) ⟨Nat.le_of_ble_eq_true rfl, Nat.le_of_ble_eq_true rfl⟩ 0 0 (Nat.le_of_ble_eq_true rfl) (Nat.le_of_ble_eq_true rfl) (Nat.le_of_ble_eq_true rfl) (Nat.le_of_ble_eq_true rfl) 47 rfl dX1_touching_44 (fun v σ1 hq => ?_)
            obtain ⟨rfl, rfl⟩ := hq
            refine g_icmp_eq 69 50 rfl (by decide) dX1_touching_47 (fun c47 => ?_) (fun c47 => ?_)
            · refine g_iconst (v := 1) (by decide) 70 rfl dX1_touching_69 ?_
              refine g_goto 74 (by decide) dX1_touching_70 ?_
              exact j74 ((1 : Int32)) (by simp [tc0, *]; first | rfl | decide)
            · refine g_aload_n rfl ld_0 51 rfl dX1_touching_50 ?_
              refine g_iload_n rfl ld_2 52 rfl dX1_touching_51 ?_
              refine g_iload ld_4 54 rfl dX1_touching_52 ?_
              refine g_iconst (v := 3) (by decide) 55 rfl dX1_touching_54 ?_
              refine g_iaddN (a := i) (c := 3) rfl (show (3 : Int32) = nI 3 from rfl) 56 rfl dX1_touching_55 ?_
              refine g_callV (As := [.int (nI q), .int (nI (i + 3))]) (rest := []) (ci := 1) (v_X1_of z.l D b hM (w0 := A 0) rfl q (i + 3) (by omega)) k_X1_of q1793 hM.1 rfl rfl rfl rfl (Nat.le_of_ble_eq_true rfl) ⟨Nat.le_of_ble_eq_true rfl, Nat.le_of_ble_eq_true rfl⟩ 0 0 (Nat.le_of_ble_eq_true rfl) (Nat.le_of_ble_eq_true rfl) (Nat.le_of_ble_eq_true rfl) (Nat.le_of_ble_eq_true rfl) 59 rfl dX1_touching_56 (fun v σ1 hq => ?_)
              obtain ⟨rfl, rfl⟩ := hq
              refine g_aload_n rfl ld_0 60 rfl dX1_touching_59 ?_
              refine g_iload_n rfl ld_1 61 rfl dX1_touching_60 ?_
              refine g_iload ld_4 63 rfl dX1_touching_61 ?_
              refine g_callV (As := [.int (nI j), .int (nI i)]) (rest := [.int ((A 0) (7 * q + (i + 3)))]) (ci := 1) (v_X1_of z.l D b hM (w0 := A 0) rfl j i (by omega)) k_X1_of q1793 hM.1 rfl rfl rfl rfl (Nat.le_of_ble_eq_true rfl) ⟨Nat.le_of_ble_eq_true rfl, Nat.le_of_ble_eq_true rfl⟩ 0 0 (Nat.le_of_ble_eq_true rfl) (Nat.le_of_ble_eq_true rfl) (Nat.le_of_ble_eq_true rfl) (Nat.le_of_ble_eq_true rfl) 66 rfl dX1_touching_63 (fun v σ1 hq => ?_)
              obtain ⟨rfl, rfl⟩ := hq
              refine g_icmp_ne 73 69 rfl (by decide) dX1_touching_66 (fun c66 => ?_) (fun c66 => ?_)
              · refine g_iconst (v := 0) (by decide) 74 rfl dX1_touching_73 ?_
                exact j74 ((0 : Int32)) (by simp [tc0, *]; first | rfl | decide)
              · refine g_iconst (v := 1) (by decide) 70 rfl dX1_touching_69 ?_
                refine g_goto 74 (by decide) dX1_touching_70 ?_
                exact j74 ((1 : Int32)) (by simp [tc0, *]; first | rfl | decide)
      exact lp25 (3 + 1) 0 ((-106 : Int32)) (by omega) (by omega) (rfl)
    · refine g_bipush (v := -101) (by decide) 18 rfl dX1_touching_16 ?_
      exact g_iret hR rfl (Nat.le_of_ble_eq_true rfl) (Nat.le_of_ble_eq_true rfl) ⟨congrArg (fun p => some (Value.int p)) (show (-101 : Int32) = touchR (A 0) u v from by simp [touchR, *]), rfl⟩ dX1_touching_18
theorem v_X1_touching (l : Launch) (D : DD) (b : Nat) {h : Nat} {ad : Nat → Nat} {σ0 : Hp} {F : Nat → Int32} {A : Nat → Nat → Int32} {σ : Hp} (hM : MW D h ad σ0 F A σ) {w0 : Nat → Int32} (hw0 : A 0 = w0) (u v : Int32) : CM l yX1_touching cX1_touching 7 (some .int) rX1_touching D b [.ref h, .int u, .int v] σ (PIx (touchR (w0) u v) σ) := by
  subst hw0
  exact c_X1_touching l D b hM u v
