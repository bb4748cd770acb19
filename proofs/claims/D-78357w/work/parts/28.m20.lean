/-! THE REFERENCE, part 20: its constructor -/
set_option maxRecDepth 100000
def ifv (ad : Nat → Nat) (n k : Nat) : Value := if k ∈ maL.take n then .ref (ad k) else if k ∈ maL then .null else .int 0
def ifs (ad : Nat → Nat) (n : Nat) : List Value := (List.range 28).map (ifv ad n)
def oN1 (ad : Nat → Nat) (k q : Nat) : Nat → Nat := fun j => if j = k then q else ad j
theorem ifs_len (ad : Nat → Nat) (n : Nat) : (ifs ad n).length = 28 := by simp [ifs]
def MI (D : DD) (h b : Nat) (σ0 : Hp) (n : Nat) (ad : Nat → Nat) (σ : Hp) : Prop :=
  σ h = some (.inr (1, ifs ad n)) ∧ (∀ k ∈ maL.take n, σ (ad k) = some (mar D k (fun _ => 0)) ∧ σ0 (ad k) = none ∧ b ≤ ad k) ∧ σ0 h ≠ none ∧
  (∀ i ∈ maL.take n, ∀ j ∈ maL.take n, ad i = ad j → i = j) ∧ (∀ a, a ≠ h → (∀ k ∈ maL.take n, a ≠ ad k) → σ a = σ0 a)
theorem MI_step {D : DD} {h b : Nat} {σ0 σ : Hp} {n : Nat} {ad : Nat → Nat} (k q : Nat) (H : MI D h b σ0 n ad σ) (hq : σ q = none) (hb : b ≤ q) (hk : maL.take (n + 1) = maL.take n ++ [k]) (hkn : k ∉ maL.take n)
    (hs : (ifs ad n).set k (.ref q) = ifs (oN1 ad k q) (n + 1)) : MI D h b σ0 (n + 1) (oN1 ad k q) (up (up σ q (mar D k (fun _ => 0))) h (.inr (1, (ifs ad n).set k (.ref q)))) := by
  obtain ⟨h1, h2, h3, h4, h5⟩ := H
  have hqh : q ≠ h := fun e => by rw [e, h1] at hq; cases hq
  have hqa : ∀ j ∈ maL.take n, q ≠ ad j := fun j hj e => by rw [e, (h2 j hj).1] at hq; cases hq
  have hne : ∀ j ∈ maL.take n, oN1 ad k q j = ad j := fun j hj => if_neg (fun e : j = k => hkn (e ▸ hj))
  have hke : oN1 ad k q k = q := if_pos rfl
  have hah : ∀ j ∈ maL.take n, ad j ≠ h := fun j hj e => h3 (e ▸ (h2 j hj).2.1)
  refine ⟨by rw [up_s, hs], fun j hj => ?_, h3, fun i hi j hj e => ?_, fun a ha hb' => ?_⟩
  · rw [hk, List.mem_append, List.mem_singleton] at hj
    rcases hj with hj | rfl
    · rw [hne j hj, up_n (hah j hj), up_n (hqa j hj).symm]; exact h2 j hj
    · rw [hke, up_n hqh, up_s]
      exact ⟨rfl, by rw [← h5 q hqh hqa]; exact hq, hb⟩
  · rw [hk, List.mem_append, List.mem_singleton] at hi hj
    rcases hi with hi | rfl <;> rcases hj with hj | rfl
    · rw [hne i hi, hne j hj] at e; exact h4 i hi j hj e
    · rw [hne i hi, hke] at e; exact absurd e.symm (hqa i hi)
    · rw [hne j hj, hke] at e; exact absurd e (hqa j hj)
    · rfl
  · have hbq : a ≠ q := fun e => hb' k (by rw [hk]; simp) (by rw [hke]; exact e)
    rw [up_n ha, up_n hbq]
    exact h5 a ha (fun j hj => by have := hb' j (by rw [hk]; exact List.mem_append_left _ hj); rw [hne j hj] at this; exact this)
theorem MI_end {D : DD} {h b : Nat} {σ0 σ : Hp} {ad : Nat → Nat} (H : MI D h b σ0 15 ad σ) : MW D h ad σ0 (fun _ => 0) (fun _ _ => 0) σ ∧ ∀ k ∈ maL, σ0 (ad k) = none ∧ b ≤ ad k := by
  obtain ⟨h1, h2, h3, h4, h5⟩ := H
  exact ⟨⟨h1, fun k hk => (h2 k hk).1, fun k hk e => h3 (e ▸ (h2 k hk).2.1), h4, fun a ha => h5 a (fun e => ha (Or.inl e)) (fun k hk e => ha (Or.inr ⟨k, hk, e⟩))⟩, fun k hk => (h2 k hk).2⟩
theorem ifs_0 (ad : Nat → Nat) (q : Nat) : (ifs ad 0).set 0 (.ref q) = ifs (oN1 ad 0 q) 1 := by rfl
theorem ifs_1 (ad : Nat → Nat) (q : Nat) : (ifs ad 1).set 1 (.ref q) = ifs (oN1 ad 1 q) 2 := by rfl
theorem ifs_2 (ad : Nat → Nat) (q : Nat) : (ifs ad 2).set 3 (.ref q) = ifs (oN1 ad 3 q) 3 := by rfl
theorem ifs_3 (ad : Nat → Nat) (q : Nat) : (ifs ad 3).set 5 (.ref q) = ifs (oN1 ad 5 q) 4 := by rfl
theorem ifs_4 (ad : Nat → Nat) (q : Nat) : (ifs ad 4).set 7 (.ref q) = ifs (oN1 ad 7 q) 5 := by rfl
theorem ifs_5 (ad : Nat → Nat) (q : Nat) : (ifs ad 5).set 8 (.ref q) = ifs (oN1 ad 8 q) 6 := by rfl
theorem ifs_6 (ad : Nat → Nat) (q : Nat) : (ifs ad 6).set 9 (.ref q) = ifs (oN1 ad 9 q) 7 := by rfl
theorem ifs_7 (ad : Nat → Nat) (q : Nat) : (ifs ad 7).set 10 (.ref q) = ifs (oN1 ad 10 q) 8 := by rfl
theorem ifs_8 (ad : Nat → Nat) (q : Nat) : (ifs ad 8).set 12 (.ref q) = ifs (oN1 ad 12 q) 9 := by rfl
theorem ifs_9 (ad : Nat → Nat) (q : Nat) : (ifs ad 9).set 14 (.ref q) = ifs (oN1 ad 14 q) 10 := by rfl
theorem ifs_10 (ad : Nat → Nat) (q : Nat) : (ifs ad 10).set 15 (.ref q) = ifs (oN1 ad 15 q) 11 := by rfl
theorem ifs_11 (ad : Nat → Nat) (q : Nat) : (ifs ad 11).set 21 (.ref q) = ifs (oN1 ad 21 q) 12 := by rfl
theorem ifs_12 (ad : Nat → Nat) (q : Nat) : (ifs ad 12).set 22 (.ref q) = ifs (oN1 ad 22 q) 13 := by rfl
theorem ifs_13 (ad : Nat → Nat) (q : Nat) : (ifs ad 13).set 23 (.ref q) = ifs (oN1 ad 23 q) 14 := by rfl
theorem ifs_14 (ad : Nat → Nat) (q : Nat) : (ifs ad 14).set 26 (.ref q) = ifs (oN1 ad 26 q) 15 := by rfl
def rX1_init : Room := { frames := 1, cells := 15, slots := 1705, locals := 12 }
theorem k_X1_init : CI yX1_init cX1_init 1 0 := ⟨q1658, q81, q1659, rfl, by decide +kernel, by decide +kernel, by decide +kernel⟩
set_option maxHeartbeats 2000000 in
theorem c_X1_init (l : Launch) (D : DD) (b : Nat) {h : Nat} {σ : Hp} (he : σ h = some (.inr (1, ifs (fun _ => 0) 0))) : CM l yX1_init cX1_init 1 none rX1_init D b [.ref h] σ (PV (fun σ' => ∃ ad, MW D h ad σ (fun _ => 0) (fun _ _ => 0) σ' ∧ ∀ k ∈ maL, σ (ad k) = none ∧ b ≤ ad k)) := by
  refine CM_of [some (.ref h)] RX1 (by decide) rfl (cat_all rfl) (Nat.le_of_ble_eq_true rfl) rfl ?_
  intro z hz hR hnm
  have hM : MI D h b σ 0 (fun _ => 0) σ := ⟨he, fun k hk => absurd hk (by simp), (by rw [he]; exact Option.some_ne_none _), fun i hi => absurd hi (by simp), fun a _ _ => rfl⟩
  refine g_aload_n rfl ld_0 1 rfl dX1_init_0 ?_
  refine g_objInit q1660 q123 q124 (Nat.le_of_ble_eq_true rfl) (Nat.le_of_ble_eq_true rfl) 4 rfl dX1_init_1 ?_
  refine g_aload_n rfl ld_0 5 rfl dX1_init_4 ?_
  refine g_bipush (v := 84) (by decide) 7 rfl dX1_init_5 ?_
  refine g_newaI (N := 84) 1 84 q165 (show (84 : Int32) = nI 84 from rfl) (by decide) rfl rfl (Nat.le_of_ble_eq_true rfl) (Nat.le_of_ble_eq_true rfl) 9 rfl dX1_init_7 (fun q hq hqb => ?_)
  have hqh : q ≠ h := fun e => by rw [e, hM.1] at hq; cases hq
  refine g_putF (T := TX1) (N := 28) (kf := 0) hnm ((up_n (Ne.symm hqh)).trans hM.1) (by rw [ifs_len]; decide) rfl in_X1 tyX1 tyX1_ok nmX1 (by decide) q1661 rfl rfl rfl rfl rfl rfl 12 rfl dX1_init_9 ?_
  have hM : MI D h b σ 1 (oN1 (fun _ => 0) 0 q) (up (up σ q (oI D 84 (fun _ => (0 : Int32)))) h (.inr (1, (ifs (fun _ => 0) 0).set 0 (.ref q)))) := MI_step 0 q hM hq hqb (by decide) (by decide) (ifs_0 _ _)
  revert hM
  generalize (up (up σ q (oI D 84 (fun _ => (0 : Int32)))) h (.inr (1, (ifs (fun _ => 0) 0).set 0 (.ref q)))) = σ100
  intro hM
  obtain ⟨ad1, hM⟩ : ∃ ad', MI D h b σ 1 ad' σ100 := ⟨_, hM⟩
  clear hqh hq hqb
  refine g_aload_n rfl ld_0 13 rfl dX1_init_12 ?_
  refine g_sipush (v := 672) (by decide) 16 rfl dX1_init_13 ?_
  refine g_newaI (N := 672) 2 756 q165 (show (672 : Int32) = nI 672 from rfl) (by decide) rfl rfl (Nat.le_of_ble_eq_true rfl) (Nat.le_of_ble_eq_true rfl) 18 rfl dX1_init_16 (fun q hq hqb => ?_)
  have hqh : q ≠ h := fun e => by rw [e, hM.1] at hq; cases hq
  refine g_putF (T := TX1) (N := 28) (kf := 1) hnm ((up_n (Ne.symm hqh)).trans hM.1) (by rw [ifs_len]; decide) rfl in_X1 tyX1 tyX1_ok nmX1 (by decide) q1662 rfl rfl rfl rfl rfl rfl 21 rfl dX1_init_18 ?_
  have hM : MI D h b σ 2 (oN1 ad1 1 q) (up (up σ100 q (oI D 672 (fun _ => (0 : Int32)))) h (.inr (1, (ifs ad1 1).set 1 (.ref q)))) := MI_step 1 q hM hq hqb (by decide) (by decide) (ifs_1 _ _)
  revert hM
  generalize (up (up σ100 q (oI D 672 (fun _ => (0 : Int32)))) h (.inr (1, (ifs ad1 1).set 1 (.ref q)))) = σ101
  intro hM
  obtain ⟨ad2, hM⟩ : ∃ ad', MI D h b σ 2 ad' σ101 := ⟨_, hM⟩
  clear hqh hq hqb
  refine g_aload_n rfl ld_0 22 rfl dX1_init_21 ?_
  refine g_sipush (v := 168) (by decide) 25 rfl dX1_init_22 ?_
  refine g_newaI (N := 168) 3 924 q165 (show (168 : Int32) = nI 168 from rfl) (by decide) rfl rfl (Nat.le_of_ble_eq_true rfl) (Nat.le_of_ble_eq_true rfl) 27 rfl dX1_init_25 (fun q hq hqb => ?_)
  have hqh : q ≠ h := fun e => by rw [e, hM.1] at hq; cases hq
  refine g_putF (T := TX1) (N := 28) (kf := 3) hnm ((up_n (Ne.symm hqh)).trans hM.1) (by rw [ifs_len]; decide) rfl in_X1 tyX1 tyX1_ok nmX1 (by decide) q1664 rfl rfl rfl rfl rfl rfl 30 rfl dX1_init_27 ?_
  have hM : MI D h b σ 3 (oN1 ad2 3 q) (up (up σ101 q (oI D 168 (fun _ => (0 : Int32)))) h (.inr (1, (ifs ad2 2).set 3 (.ref q)))) := MI_step 3 q hM hq hqb (by decide) (by decide) (ifs_2 _ _)
  revert hM
  generalize (up (up σ101 q (oI D 168 (fun _ => (0 : Int32)))) h (.inr (1, (ifs ad2 2).set 3 (.ref q)))) = σ102
  intro hM
  obtain ⟨ad3, hM⟩ : ∃ ad', MI D h b σ 3 ad' σ102 := ⟨_, hM⟩
  clear hqh hq hqb
  refine g_aload_n rfl ld_0 31 rfl dX1_init_30 ?_
  refine g_sipush (v := 240) (by decide) 34 rfl dX1_init_31 ?_
  refine g_newaI (N := 240) 4 1164 q165 (show (240 : Int32) = nI 240 from rfl) (by decide) rfl rfl (Nat.le_of_ble_eq_true rfl) (Nat.le_of_ble_eq_true rfl) 36 rfl dX1_init_34 (fun q hq hqb => ?_)
  have hqh : q ≠ h := fun e => by rw [e, hM.1] at hq; cases hq
  refine g_putF (T := TX1) (N := 28) (kf := 5) hnm ((up_n (Ne.symm hqh)).trans hM.1) (by rw [ifs_len]; decide) rfl in_X1 tyX1 tyX1_ok nmX1 (by decide) q1666 rfl rfl rfl rfl rfl rfl 39 rfl dX1_init_36 ?_
  have hM : MI D h b σ 4 (oN1 ad3 5 q) (up (up σ102 q (oI D 240 (fun _ => (0 : Int32)))) h (.inr (1, (ifs ad3 3).set 5 (.ref q)))) := MI_step 5 q hM hq hqb (by decide) (by decide) (ifs_3 _ _)
  revert hM
  generalize (up (up σ102 q (oI D 240 (fun _ => (0 : Int32)))) h (.inr (1, (ifs ad3 3).set 5 (.ref q)))) = σ103
  intro hM
  obtain ⟨ad4, hM⟩ : ∃ ad', MI D h b σ 4 ad' σ103 := ⟨_, hM⟩
  clear hqh hq hqb
  refine g_aload_n rfl ld_0 40 rfl dX1_init_39 ?_
  refine g_bipush (v := 6) (by decide) 42 rfl dX1_init_40 ?_
  refine g_newaI (N := 6) 5 1170 q165 (show (6 : Int32) = nI 6 from rfl) (by decide) rfl rfl (Nat.le_of_ble_eq_true rfl) (Nat.le_of_ble_eq_true rfl) 44 rfl dX1_init_42 (fun q hq hqb => ?_)
  have hqh : q ≠ h := fun e => by rw [e, hM.1] at hq; cases hq
  refine g_putF (T := TX1) (N := 28) (kf := 7) hnm ((up_n (Ne.symm hqh)).trans hM.1) (by rw [ifs_len]; decide) rfl in_X1 tyX1 tyX1_ok nmX1 (by decide) q1668 rfl rfl rfl rfl rfl rfl 47 rfl dX1_init_44 ?_
  have hM : MI D h b σ 5 (oN1 ad4 7 q) (up (up σ103 q (oI D 6 (fun _ => (0 : Int32)))) h (.inr (1, (ifs ad4 4).set 7 (.ref q)))) := MI_step 7 q hM hq hqb (by decide) (by decide) (ifs_4 _ _)
  revert hM
  generalize (up (up σ103 q (oI D 6 (fun _ => (0 : Int32)))) h (.inr (1, (ifs ad4 4).set 7 (.ref q)))) = σ104
  intro hM
  obtain ⟨ad5, hM⟩ : ∃ ad', MI D h b σ 5 ad' σ104 := ⟨_, hM⟩
  clear hqh hq hqb
  refine g_aload_n rfl ld_0 48 rfl dX1_init_47 ?_
  refine g_bipush (v := 12) (by decide) 50 rfl dX1_init_48 ?_
  refine g_newaI (N := 12) 6 1182 q165 (show (12 : Int32) = nI 12 from rfl) (by decide) rfl rfl (Nat.le_of_ble_eq_true rfl) (Nat.le_of_ble_eq_true rfl) 52 rfl dX1_init_50 (fun q hq hqb => ?_)
  have hqh : q ≠ h := fun e => by rw [e, hM.1] at hq; cases hq
  refine g_putF (T := TX1) (N := 28) (kf := 8) hnm ((up_n (Ne.symm hqh)).trans hM.1) (by rw [ifs_len]; decide) rfl in_X1 tyX1 tyX1_ok nmX1 (by decide) q1669 rfl rfl rfl rfl rfl rfl 55 rfl dX1_init_52 ?_
  have hM : MI D h b σ 6 (oN1 ad5 8 q) (up (up σ104 q (oI D 12 (fun _ => (0 : Int32)))) h (.inr (1, (ifs ad5 5).set 8 (.ref q)))) := MI_step 8 q hM hq hqb (by decide) (by decide) (ifs_5 _ _)
  revert hM
  generalize (up (up σ104 q (oI D 12 (fun _ => (0 : Int32)))) h (.inr (1, (ifs ad5 5).set 8 (.ref q)))) = σ105
  intro hM
  obtain ⟨ad6, hM⟩ : ∃ ad', MI D h b σ 6 ad' σ105 := ⟨_, hM⟩
  clear hqh hq hqb
  refine g_aload_n rfl ld_0 56 rfl dX1_init_55 ?_
  refine g_bipush (v := 12) (by decide) 58 rfl dX1_init_56 ?_
  refine g_newaI (N := 12) 7 1194 q165 (show (12 : Int32) = nI 12 from rfl) (by decide) rfl rfl (Nat.le_of_ble_eq_true rfl) (Nat.le_of_ble_eq_true rfl) 60 rfl dX1_init_58 (fun q hq hqb => ?_)
  have hqh : q ≠ h := fun e => by rw [e, hM.1] at hq; cases hq
  refine g_putF (T := TX1) (N := 28) (kf := 9) hnm ((up_n (Ne.symm hqh)).trans hM.1) (by rw [ifs_len]; decide) rfl in_X1 tyX1 tyX1_ok nmX1 (by decide) q1670 rfl rfl rfl rfl rfl rfl 63 rfl dX1_init_60 ?_
  have hM : MI D h b σ 7 (oN1 ad6 9 q) (up (up σ105 q (oI D 12 (fun _ => (0 : Int32)))) h (.inr (1, (ifs ad6 6).set 9 (.ref q)))) := MI_step 9 q hM hq hqb (by decide) (by decide) (ifs_6 _ _)
  revert hM
  generalize (up (up σ105 q (oI D 12 (fun _ => (0 : Int32)))) h (.inr (1, (ifs ad6 6).set 9 (.ref q)))) = σ106
  intro hM
  obtain ⟨ad7, hM⟩ : ∃ ad', MI D h b σ 7 ad' σ106 := ⟨_, hM⟩
  clear hqh hq hqb
  refine g_aload_n rfl ld_0 64 rfl dX1_init_63 ?_
  refine g_sipush (v := 280) (by decide) 67 rfl dX1_init_64 ?_
  refine g_newaI (N := 280) 8 1474 q165 (show (280 : Int32) = nI 280 from rfl) (by decide) rfl rfl (Nat.le_of_ble_eq_true rfl) (Nat.le_of_ble_eq_true rfl) 69 rfl dX1_init_67 (fun q hq hqb => ?_)
  have hqh : q ≠ h := fun e => by rw [e, hM.1] at hq; cases hq
  refine g_putF (T := TX1) (N := 28) (kf := 10) hnm ((up_n (Ne.symm hqh)).trans hM.1) (by rw [ifs_len]; decide) rfl in_X1 tyX1 tyX1_ok nmX1 (by decide) q1671 rfl rfl rfl rfl rfl rfl 72 rfl dX1_init_69 ?_
  have hM : MI D h b σ 8 (oN1 ad7 10 q) (up (up σ106 q (oI D 280 (fun _ => (0 : Int32)))) h (.inr (1, (ifs ad7 7).set 10 (.ref q)))) := MI_step 10 q hM hq hqb (by decide) (by decide) (ifs_7 _ _)
  revert hM
  generalize (up (up σ106 q (oI D 280 (fun _ => (0 : Int32)))) h (.inr (1, (ifs ad7 7).set 10 (.ref q)))) = σ107
  intro hM
  obtain ⟨ad8, hM⟩ : ∃ ad', MI D h b σ 8 ad' σ107 := ⟨_, hM⟩
  clear hqh hq hqb
  refine g_aload_n rfl ld_0 73 rfl dX1_init_72 ?_
  refine g_bipush (v := 40) (by decide) 75 rfl dX1_init_73 ?_
  refine g_newaI (N := 40) 9 1514 q165 (show (40 : Int32) = nI 40 from rfl) (by decide) rfl rfl (Nat.le_of_ble_eq_true rfl) (Nat.le_of_ble_eq_true rfl) 77 rfl dX1_init_75 (fun q hq hqb => ?_)
  have hqh : q ≠ h := fun e => by rw [e, hM.1] at hq; cases hq
  refine g_putF (T := TX1) (N := 28) (kf := 12) hnm ((up_n (Ne.symm hqh)).trans hM.1) (by rw [ifs_len]; decide) rfl in_X1 tyX1 tyX1_ok nmX1 (by decide) q1673 rfl rfl rfl rfl rfl rfl 80 rfl dX1_init_77 ?_
  have hM : MI D h b σ 9 (oN1 ad8 12 q) (up (up σ107 q (oI D 40 (fun _ => (0 : Int32)))) h (.inr (1, (ifs ad8 8).set 12 (.ref q)))) := MI_step 12 q hM hq hqb (by decide) (by decide) (ifs_8 _ _)
  revert hM
  generalize (up (up σ107 q (oI D 40 (fun _ => (0 : Int32)))) h (.inr (1, (ifs ad8 8).set 12 (.ref q)))) = σ108
  intro hM
  obtain ⟨ad9, hM⟩ : ∃ ad', MI D h b σ 9 ad' σ108 := ⟨_, hM⟩
  clear hqh hq hqb
  refine g_aload_n rfl ld_0 81 rfl dX1_init_80 ?_
  refine g_bipush (v := 40) (by decide) 83 rfl dX1_init_81 ?_
  refine g_newaZ (N := 40) 10 1554 q1746 (show (40 : Int32) = nI 40 from rfl) (by decide) rfl rfl (Nat.le_of_ble_eq_true rfl) (Nat.le_of_ble_eq_true rfl) 85 rfl dX1_init_83 (fun q hq hqb => ?_)
  have hqh : q ≠ h := fun e => by rw [e, hM.1] at hq; cases hq
  refine g_putF (T := TX1) (N := 28) (kf := 14) hnm ((up_n (Ne.symm hqh)).trans hM.1) (by rw [ifs_len]; decide) rfl in_X1 tyX1 tyX1_ok nmX1 (by decide) q1675 rfl rfl rfl rfl rfl rfl 88 rfl dX1_init_85 ?_
  have hM : MI D h b σ 10 (oN1 ad9 14 q) (up (up σ108 q (oZ D 40 (fun _ => (0 : Int32)))) h (.inr (1, (ifs ad9 9).set 14 (.ref q)))) := MI_step 14 q hM hq hqb (by decide) (by decide) (ifs_9 _ _)
  revert hM
  generalize (up (up σ108 q (oZ D 40 (fun _ => (0 : Int32)))) h (.inr (1, (ifs ad9 9).set 14 (.ref q)))) = σ109
  intro hM
  obtain ⟨ad10, hM⟩ : ∃ ad', MI D h b σ 10 ad' σ109 := ⟨_, hM⟩
  clear hqh hq hqb
  refine g_aload_n rfl ld_0 89 rfl dX1_init_88 ?_
  refine g_bipush (v := 40) (by decide) 91 rfl dX1_init_89 ?_
  refine g_newaI (N := 40) 11 1594 q165 (show (40 : Int32) = nI 40 from rfl) (by decide) rfl rfl (Nat.le_of_ble_eq_true rfl) (Nat.le_of_ble_eq_true rfl) 93 rfl dX1_init_91 (fun q hq hqb => ?_)
  have hqh : q ≠ h := fun e => by rw [e, hM.1] at hq; cases hq
  refine g_putF (T := TX1) (N := 28) (kf := 15) hnm ((up_n (Ne.symm hqh)).trans hM.1) (by rw [ifs_len]; decide) rfl in_X1 tyX1 tyX1_ok nmX1 (by decide) q1676 rfl rfl rfl rfl rfl rfl 96 rfl dX1_init_93 ?_
  have hM : MI D h b σ 11 (oN1 ad10 15 q) (up (up σ109 q (oI D 40 (fun _ => (0 : Int32)))) h (.inr (1, (ifs ad10 10).set 15 (.ref q)))) := MI_step 15 q hM hq hqb (by decide) (by decide) (ifs_10 _ _)
  revert hM
  generalize (up (up σ109 q (oI D 40 (fun _ => (0 : Int32)))) h (.inr (1, (ifs ad10 10).set 15 (.ref q)))) = σ110
  intro hM
  obtain ⟨ad11, hM⟩ : ∃ ad', MI D h b σ 11 ad' σ110 := ⟨_, hM⟩
  clear hqh hq hqb
  refine g_aload_n rfl ld_0 97 rfl dX1_init_96 ?_
  refine g_bipush (v := 12) (by decide) 99 rfl dX1_init_97 ?_
  refine g_newaI (N := 12) 12 1606 q165 (show (12 : Int32) = nI 12 from rfl) (by decide) rfl rfl (Nat.le_of_ble_eq_true rfl) (Nat.le_of_ble_eq_true rfl) 101 rfl dX1_init_99 (fun q hq hqb => ?_)
  have hqh : q ≠ h := fun e => by rw [e, hM.1] at hq; cases hq
  refine g_putF (T := TX1) (N := 28) (kf := 21) hnm ((up_n (Ne.symm hqh)).trans hM.1) (by rw [ifs_len]; decide) rfl in_X1 tyX1 tyX1_ok nmX1 (by decide) q1682 rfl rfl rfl rfl rfl rfl 104 rfl dX1_init_101 ?_
  have hM : MI D h b σ 12 (oN1 ad11 21 q) (up (up σ110 q (oI D 12 (fun _ => (0 : Int32)))) h (.inr (1, (ifs ad11 11).set 21 (.ref q)))) := MI_step 21 q hM hq hqb (by decide) (by decide) (ifs_11 _ _)
  revert hM
  generalize (up (up σ110 q (oI D 12 (fun _ => (0 : Int32)))) h (.inr (1, (ifs ad11 11).set 21 (.ref q)))) = σ111
  intro hM
  obtain ⟨ad12, hM⟩ : ∃ ad', MI D h b σ 12 ad' σ111 := ⟨_, hM⟩
  clear hqh hq hqb
  refine g_aload_n rfl ld_0 105 rfl dX1_init_104 ?_
  refine g_bipush (v := 12) (by decide) 107 rfl dX1_init_105 ?_
  refine g_newaI (N := 12) 13 1618 q165 (show (12 : Int32) = nI 12 from rfl) (by decide) rfl rfl (Nat.le_of_ble_eq_true rfl) (Nat.le_of_ble_eq_true rfl) 109 rfl dX1_init_107 (fun q hq hqb => ?_)
  have hqh : q ≠ h := fun e => by rw [e, hM.1] at hq; cases hq
  refine g_putF (T := TX1) (N := 28) (kf := 22) hnm ((up_n (Ne.symm hqh)).trans hM.1) (by rw [ifs_len]; decide) rfl in_X1 tyX1 tyX1_ok nmX1 (by decide) q1683 rfl rfl rfl rfl rfl rfl 112 rfl dX1_init_109 ?_
  have hM : MI D h b σ 13 (oN1 ad12 22 q) (up (up σ111 q (oI D 12 (fun _ => (0 : Int32)))) h (.inr (1, (ifs ad12 12).set 22 (.ref q)))) := MI_step 22 q hM hq hqb (by decide) (by decide) (ifs_12 _ _)
  revert hM
  generalize (up (up σ111 q (oI D 12 (fun _ => (0 : Int32)))) h (.inr (1, (ifs ad12 12).set 22 (.ref q)))) = σ112
  intro hM
  obtain ⟨ad13, hM⟩ : ∃ ad', MI D h b σ 13 ad' σ112 := ⟨_, hM⟩
  clear hqh hq hqb
  refine g_aload_n rfl ld_0 113 rfl dX1_init_112 ?_
  refine g_iconst (v := 3) (by decide) 114 rfl dX1_init_113 ?_
  refine g_newaI (N := 3) 14 1621 q165 (show (3 : Int32) = nI 3 from rfl) (by decide) rfl rfl (Nat.le_of_ble_eq_true rfl) (Nat.le_of_ble_eq_true rfl) 116 rfl dX1_init_114 (fun q hq hqb => ?_)
  have hqh : q ≠ h := fun e => by rw [e, hM.1] at hq; cases hq
  refine g_putF (T := TX1) (N := 28) (kf := 23) hnm ((up_n (Ne.symm hqh)).trans hM.1) (by rw [ifs_len]; decide) rfl in_X1 tyX1 tyX1_ok nmX1 (by decide) q1684 rfl rfl rfl rfl rfl rfl 119 rfl dX1_init_116 ?_
  have hM : MI D h b σ 14 (oN1 ad13 23 q) (up (up σ112 q (oI D 3 (fun _ => (0 : Int32)))) h (.inr (1, (ifs ad13 13).set 23 (.ref q)))) := MI_step 23 q hM hq hqb (by decide) (by decide) (ifs_13 _ _)
  revert hM
  generalize (up (up σ112 q (oI D 3 (fun _ => (0 : Int32)))) h (.inr (1, (ifs ad13 13).set 23 (.ref q)))) = σ113
  intro hM
  obtain ⟨ad14, hM⟩ : ∃ ad', MI D h b σ 14 ad' σ113 := ⟨_, hM⟩
  clear hqh hq hqb
  refine g_aload_n rfl ld_0 120 rfl dX1_init_119 ?_
  refine g_bipush (v := 84) (by decide) 122 rfl dX1_init_120 ?_
  refine g_newaI (N := 84) 15 1705 q165 (show (84 : Int32) = nI 84 from rfl) (by decide) rfl rfl (Nat.le_of_ble_eq_true rfl) (Nat.le_of_ble_eq_true rfl) 124 rfl dX1_init_122 (fun q hq hqb => ?_)
  have hqh : q ≠ h := fun e => by rw [e, hM.1] at hq; cases hq
  refine g_putF (T := TX1) (N := 28) (kf := 26) hnm ((up_n (Ne.symm hqh)).trans hM.1) (by rw [ifs_len]; decide) rfl in_X1 tyX1 tyX1_ok nmX1 (by decide) q1687 rfl rfl rfl rfl rfl rfl 127 rfl dX1_init_124 ?_
  have hM : MI D h b σ 15 (oN1 ad14 26 q) (up (up σ113 q (oI D 84 (fun _ => (0 : Int32)))) h (.inr (1, (ifs ad14 14).set 26 (.ref q)))) := MI_step 26 q hM hq hqb (by decide) (by decide) (ifs_14 _ _)
  revert hM
  generalize (up (up σ113 q (oI D 84 (fun _ => (0 : Int32)))) h (.inr (1, (ifs ad14 14).set 26 (.ref q)))) = σ114
  intro hM
  obtain ⟨ad15, hM⟩ : ∃ ad', MI D h b σ 15 ad' σ114 := ⟨_, hM⟩
  clear hqh hq hqb
  refine g_aload_n rfl ld_0 128 rfl dX1_init_127 ?_
  refine g_iconst (v := 0) (by decide) 129 rfl dX1_init_128 ?_
  obtain ⟨hM, hnew⟩ := MI_end hM
  refine gm_put (v := 0) 2 (by decide) hM q1663 132 rfl dX1_init_129 (fun σ1 hM => ?_)
  have e0 : upd (fun _ => (0 : Int32)) 2 0 = fun _ => 0 := by funext x; simp [upd]
  rw [e0] at hM
  exact g_vret hR (Nat.le_of_ble_eq_true rfl) (Nat.le_of_ble_eq_true rfl) ⟨rfl, _, hM, hnew⟩ dX1_init_132
