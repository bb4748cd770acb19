/-! THE COMPONENT, part 2: boxes made -/
set_option maxRecDepth 100000
/-- what was in σ and is not in M stands in σ' -/
def Ext (M : List Nat) (σ σ' : Hp) : Prop := ∀ a, a ∉ M → σ a ≠ none → σ' a = σ a
theorem Ext.refl (M : List Nat) (σ : Hp) : Ext M σ σ := fun _ _ _ => rfl
theorem Ext.trans {M : List Nat} {σ σ' σ'' : Hp} (h : Ext M σ σ') (h' : Ext M σ' σ'') : Ext M σ σ'' := fun a ha hn => (h' a ha (by rw [h a ha hn]; exact hn)).trans (h a ha hn)
theorem Ext.mono {M M' : List Nat} {σ σ' : Hp} (h : Ext M σ σ') (hm : ∀ a ∈ M, a ∈ M') : Ext M' σ σ' := fun a ha hn => h a (fun e => ha (hm a e)) hn
theorem Ext.fact {M : List Nat} {σ σ' : Hp} {a : Nat} {e : va_E} (h : Ext M σ σ') (ha : a ∉ M) (f : σ a = some e) : σ' a = some e := (h a ha (by rw [f]; exact Option.some_ne_none _)).trans f
theorem Ext.nn {M : List Nat} {σ σ' : Hp} {q : Nat} (h : Ext M σ σ') (hq : σ' q = none) (hqM : q ∉ M) : σ q = none := by
  cases e : σ q with
  | none => rfl
  | some x => rw [h.fact hqM e] at hq; cases hq
theorem Ext.upn {M : List Nat} {σ σ' : Hp} {q : Nat} (h : Ext M σ σ') (hq : σ q = none) (e : va_E) : Ext M σ (up σ' q e) := fun a ha hn => by
  rw [up_n (fun x => hn (by rw [x]; exact hq))]; exact h a ha hn
theorem Ext.upm {M : List Nat} {σ σ' : Hp} {q : Nat} (h : Ext M σ σ') (hq : q ∈ M) (e : va_E) : Ext M σ (up σ' q e) := fun a ha hn => by
  rw [up_n (fun x => ha (by rw [x]; exact hq))]; exact h a ha hn
theorem ne_fresh {σ : Hp} {x q : Nat} {e : va_E} (hq : σ q = none) (h : σ x = some e) : x ≠ q := fun c => by rw [c, hq] at h; cases h
theorem ne_oI {D : DD} {σ : Hp} {x y ci n : Nat} {fs : List Value} {f : Nat → Int32} (h : σ x = some (.inr (ci, fs))) (h' : σ y = some (oI D n f)) : x ≠ y := fun c => by rw [c, h'] at h; cases h
theorem Ext.call {M M' : List Nat} {σ σ' σ'' : Hp} (h : Ext M σ σ') (h' : Ext M' σ' σ'') (hm : ∀ a ∈ M', a ∈ M ∨ σ a = none) : Ext M σ σ'' := fun a ha hn =>
  (h' a (fun e => (hm a e).elim ha hn) (by rw [h a ha hn]; exact hn)).trans (h a ha hn)
theorem not_in0 {q : Nat} : q ∉ ([] : List Nat) := by simp
theorem not_in1 {q x : Nat} (h : q ≠ x) : q ∉ [x] := by simp [h]
def rX2_init_2 : Room := { frames := 1, cells := 0, slots := 0, locals := 12 }
theorem k_X2_init_2 : CI yX2_init_2 cX2_init_2 4 3 := ⟨q408, q82, q409, rfl, by decide +kernel, by decide +kernel, by decide +kernel⟩
set_option maxHeartbeats 400000 in
theorem c_X2_init_2 (l : Launch) (D : DD) (b : Nat) {σ : Hp} {h : Nat} (he : σ h = some (.inr (2, [.int 0, .null, .null]))) (n : Int32) (lo hi : Nat) : CM l yX2_init_2 cX2_init_2 4 none rX2_init_2 D b [.ref h, .int n, .ref lo, .ref hi] σ (PV (fun σ' => Ext [h] σ σ' ∧ σ' h = some (.inr (2, [.int n, .ref lo, .ref hi])))) := by
  refine CM_of [some (.ref h), some (.int n), some (.ref lo), some (.ref hi)] RX2 (by decide) rfl (cat_all rfl) (Nat.le_of_ble_eq_true rfl) rfl ?_
  intro z hz hR hnm
  refine g_aload_n rfl ld_0 1 rfl dX2_init_2_0 ?_
  refine g_objInit q253 q123 q124 (Nat.le_of_ble_eq_true rfl) (Nat.le_of_ble_eq_true rfl) 4 rfl dX2_init_2_1 ?_
  refine g_aload_n rfl ld_0 5 rfl dX2_init_2_4 ?_
  refine g_iload_n rfl ld_1 6 rfl dX2_init_2_5 ?_
  refine g_putF (T := TX2) (N := 3) (kf := 0) (v := .int n) hnm he (by simp) rfl in_X2 tyX2 tyX2_ok nmX2 (by decide) q254 rfl rfl rfl rfl rfl rfl 9 rfl dX2_init_2_6 ?_
  show G z cX2_init_2 RX2 4 rX2_init_2 D b ((up σ h (.inr (2, [.int n, .null, .null])))) 0 0 9 [some (.ref h), some (.int n), some (.ref lo), some (.ref hi)] []
  generalize hσ1 : (up σ h (.inr (2, [.int n, .null, .null]))) = σ1
  have f2 : σ1 h = some (.inr (2, [.int n, .null, .null])) := by rw [← hσ1]; exact up_s _ _ _
  have hE3 : Ext [h] σ σ1 := by rw [← hσ1]; exact Ext.upm (Ext.refl _ _) (by simp) _
  refine g_aload_n rfl ld_0 10 rfl dX2_init_2_9 ?_
  refine g_aload_n rfl ld_2 11 rfl dX2_init_2_10 ?_
  refine g_putF (T := TX2) (N := 3) (kf := 1) (v := .ref lo) hnm f2 (by simp) rfl in_X2 tyX2 tyX2_ok nmX2 (by decide) q256 rfl rfl rfl rfl rfl rfl 14 rfl dX2_init_2_11 ?_
  show G z cX2_init_2 RX2 4 rX2_init_2 D b ((up σ1 h (.inr (2, [.int n, .ref lo, .null])))) 0 0 14 [some (.ref h), some (.int n), some (.ref lo), some (.ref hi)] []
  generalize hσ4 : (up σ1 h (.inr (2, [.int n, .ref lo, .null]))) = σ4
  have f5 : σ4 h = some (.inr (2, [.int n, .ref lo, .null])) := by rw [← hσ4]; exact up_s _ _ _
  have hE6 : Ext [h] σ σ4 := by rw [← hσ4]; exact Ext.upm hE3 (by simp) _
  refine g_aload_n rfl ld_0 15 rfl dX2_init_2_14 ?_
  refine g_aload_n rfl ld_3 16 rfl dX2_init_2_15 ?_
  refine g_putF (T := TX2) (N := 3) (kf := 2) (v := .ref hi) hnm f5 (by simp) rfl in_X2 tyX2 tyX2_ok nmX2 (by decide) q258 rfl rfl rfl rfl rfl rfl 19 rfl dX2_init_2_16 ?_
  show G z cX2_init_2 RX2 4 rX2_init_2 D b ((up σ4 h (.inr (2, [.int n, .ref lo, .ref hi])))) 0 0 19 [some (.ref h), some (.int n), some (.ref lo), some (.ref hi)] []
  generalize hσ7 : (up σ4 h (.inr (2, [.int n, .ref lo, .ref hi]))) = σ7
  have f8 : σ7 h = some (.inr (2, [.int n, .ref lo, .ref hi])) := by rw [← hσ7]; exact up_s _ _ _
  have hE9 : Ext [h] σ σ7 := by rw [← hσ7]; exact Ext.upm hE6 (by simp) _
  exact g_vret hR (Nat.le_of_ble_eq_true rfl) (Nat.le_of_ble_eq_true rfl) ⟨rfl, hE9, f8⟩ dX2_init_2_19
def t3 (a c e : Int32) : Nat → Int32 := upd (upd (upd (fun _ => (0 : Int32)) 0 a) 1 c) 2 e
def rX2_init : Room := { frames := 1, cells := 2, slots := 6, locals := 12 }
theorem k_X2_init : CI yX2_init cX2_init 3 2 := ⟨q251, q82, q252, rfl, by decide +kernel, by decide +kernel, by decide +kernel⟩
set_option maxHeartbeats 1000000 in
theorem c_X2_init (l : Launch) (D : DD) (b : Nat) {σ : Hp} {h : Nat} (he : σ h = some (.inr (2, [.int 0, .null, .null]))) (n : Int32) {pa : Nat} {f : Nat → Int32} (ha : σ pa = some (oI D 6 f)) {c0 c1 c2 c3 c4 c5 : Int32} (h0 : f 0 = c0) (h1 : f 1 = c1) (h2 : f 2 = c2) (h3 : f 3 = c3) (h4 : f 4 = c4) (h5 : f 5 = c5) : CM l yX2_init cX2_init 3 none rX2_init D b [.ref h, .int n, .ref pa] σ (PV (fun σ' => Ext [h] σ σ' ∧ ∃ lo hi, BxA D σ' h lo hi n (t3 c0 c1 c2) (t3 c3 c4 c5))) := by
  refine CM_of [some (.ref h), some (.int n), some (.ref pa)] RX2 (by decide) rfl (cat_all rfl) (Nat.le_of_ble_eq_true rfl) rfl ?_
  intro z hz hR hnm
  subst h0 h1 h2 h3 h4 h5
  refine g_aload_n rfl ld_0 1 rfl dX2_init_0 ?_
  refine g_objInit q253 q123 q124 (Nat.le_of_ble_eq_true rfl) (Nat.le_of_ble_eq_true rfl) 4 rfl dX2_init_1 ?_
  refine g_aload_n rfl ld_0 5 rfl dX2_init_4 ?_
  refine g_iload_n rfl ld_1 6 rfl dX2_init_5 ?_
  refine g_putF (T := TX2) (N := 3) (kf := 0) (v := .int n) hnm he (by simp) rfl in_X2 tyX2 tyX2_ok nmX2 (by decide) q254 rfl rfl rfl rfl rfl rfl 9 rfl dX2_init_6 ?_
  show G z cX2_init RX2 3 rX2_init D b ((up σ h (.inr (2, [.int n, .null, .null])))) 0 0 9 [some (.ref h), some (.int n), some (.ref pa)] []
  generalize hσ1 : (up σ h (.inr (2, [.int n, .null, .null]))) = σ1
  have f2 : σ1 h = some (.inr (2, [.int n, .null, .null])) := by rw [← hσ1]; exact up_s _ _ _
  have f3 : σ1 pa = some (oI D 6 f) := by rw [← hσ1]; exact (up_n (Ne.symm (ne_oI he ha))).trans ha
  have hE4 : Ext [h] σ σ1 := by rw [← hσ1]; exact Ext.upm (Ext.refl _ _) (by simp) _
  refine g_aload_n rfl ld_0 10 rfl dX2_init_9 ?_
  refine g_iconst (v := 3) (by decide) 11 rfl dX2_init_10 ?_
  refine g_newaI (N := 3) 1 3 q165 (show (3 : Int32) = nI 3 from rfl) (by decide) rfl rfl (Nat.le_of_ble_eq_true rfl) (Nat.le_of_ble_eq_true rfl) 13 rfl dX2_init_11 (fun q5 hq5 hq5b => ?_)
  have ne7 : h ≠ q5 := ne_fresh hq5 f2
  have ne8 : pa ≠ q5 := ne_fresh hq5 f3
  have fr9 : σ q5 = none := Ext.nn hE4 hq5 (not_in1 (Ne.symm ne7))
  show G z cX2_init RX2 3 rX2_init D b ((up σ1 q5 (oI D 3 ((fun _ => (0 : Int32)))))) 1 3 13 [some (.ref h), some (.int n), some (.ref pa)] [.ref q5, .ref h]
  generalize hσ6 : (up σ1 q5 (oI D 3 ((fun _ => (0 : Int32))))) = σ6
  have f10 : σ6 h = some (.inr (2, [.int n, .null, .null])) := by rw [← hσ6]; exact (up_n ne7).trans f2
  have f11 : σ6 pa = some (oI D 6 f) := by rw [← hσ6]; exact (up_n ne8).trans f3
  have f12 : σ6 q5 = some (oI D 3 ((fun _ => (0 : Int32)))) := by rw [← hσ6]; exact up_s _ _ _
  have hE13 : Ext [h] σ σ6 := by rw [← hσ6]; exact Ext.upn hE4 fr9 _
  refine g_dup rfl 14 rfl dX2_init_13 ?_
  refine g_iconst (v := 0) (by decide) 15 rfl dX2_init_14 ?_
  refine g_aload_n rfl ld_2 16 rfl dX2_init_15 ?_
  refine g_iconst (v := 0) (by decide) 17 rfl dX2_init_16 ?_
  refine g_iald (j := 0) (f := f) f11 (show (0 : Int32) = nI 0 from rfl) (by omega) (by decide) 18 rfl dX2_init_17 ?_
  refine g_iast (j := 0) f12 (show (0 : Int32) = nI 0 from rfl) (by omega) (by decide) 19 rfl dX2_init_18 ?_
  show G z cX2_init RX2 3 rX2_init D b ((up σ6 q5 (oI D 3 (upd ((fun _ => (0 : Int32))) 0 (f 0))))) 1 3 19 [some (.ref h), some (.int n), some (.ref pa)] [.ref q5, .ref h]
  generalize hσ14 : (up σ6 q5 (oI D 3 (upd ((fun _ => (0 : Int32))) 0 (f 0)))) = σ14
  have f15 : σ14 h = some (.inr (2, [.int n, .null, .null])) := by rw [← hσ14]; exact (up_n ne7).trans f10
  have f16 : σ14 pa = some (oI D 6 f) := by rw [← hσ14]; exact (up_n ne8).trans f11
  have f17 : σ14 q5 = some (oI D 3 (upd ((fun _ => (0 : Int32))) 0 (f 0))) := by rw [← hσ14]; exact up_s _ _ _
  have hE18 : Ext [h] σ σ14 := by rw [← hσ14]; exact Ext.upn hE13 fr9 _
  refine g_dup rfl 20 rfl dX2_init_19 ?_
  refine g_iconst (v := 1) (by decide) 21 rfl dX2_init_20 ?_
  refine g_aload_n rfl ld_2 22 rfl dX2_init_21 ?_
  refine g_iconst (v := 1) (by decide) 23 rfl dX2_init_22 ?_
  refine g_iald (j := 1) (f := f) f16 (show (1 : Int32) = nI 1 from rfl) (by omega) (by decide) 24 rfl dX2_init_23 ?_
  refine g_iast (j := 1) f17 (show (1 : Int32) = nI 1 from rfl) (by omega) (by decide) 25 rfl dX2_init_24 ?_
  show G z cX2_init RX2 3 rX2_init D b ((up σ14 q5 (oI D 3 (upd (upd ((fun _ => (0 : Int32))) 0 (f 0)) 1 (f 1))))) 1 3 25 [some (.ref h), some (.int n), some (.ref pa)] [.ref q5, .ref h]
  generalize hσ19 : (up σ14 q5 (oI D 3 (upd (upd ((fun _ => (0 : Int32))) 0 (f 0)) 1 (f 1)))) = σ19
  have f20 : σ19 h = some (.inr (2, [.int n, .null, .null])) := by rw [← hσ19]; exact (up_n ne7).trans f15
  have f21 : σ19 pa = some (oI D 6 f) := by rw [← hσ19]; exact (up_n ne8).trans f16
  have f22 : σ19 q5 = some (oI D 3 (upd (upd ((fun _ => (0 : Int32))) 0 (f 0)) 1 (f 1))) := by rw [← hσ19]; exact up_s _ _ _
  have hE23 : Ext [h] σ σ19 := by rw [← hσ19]; exact Ext.upn hE18 fr9 _
  refine g_dup rfl 26 rfl dX2_init_25 ?_
  refine g_iconst (v := 2) (by decide) 27 rfl dX2_init_26 ?_
  refine g_aload_n rfl ld_2 28 rfl dX2_init_27 ?_
  refine g_iconst (v := 2) (by decide) 29 rfl dX2_init_28 ?_
  refine g_iald (j := 2) (f := f) f21 (show (2 : Int32) = nI 2 from rfl) (by omega) (by decide) 30 rfl dX2_init_29 ?_
  refine g_iast (j := 2) f22 (show (2 : Int32) = nI 2 from rfl) (by omega) (by decide) 31 rfl dX2_init_30 ?_
  show G z cX2_init RX2 3 rX2_init D b ((up σ19 q5 (oI D 3 (upd (upd (upd ((fun _ => (0 : Int32))) 0 (f 0)) 1 (f 1)) 2 (f 2))))) 1 3 31 [some (.ref h), some (.int n), some (.ref pa)] [.ref q5, .ref h]
  generalize hσ24 : (up σ19 q5 (oI D 3 (upd (upd (upd ((fun _ => (0 : Int32))) 0 (f 0)) 1 (f 1)) 2 (f 2)))) = σ24
  have f25 : σ24 h = some (.inr (2, [.int n, .null, .null])) := by rw [← hσ24]; exact (up_n ne7).trans f20
  have f26 : σ24 pa = some (oI D 6 f) := by rw [← hσ24]; exact (up_n ne8).trans f21
  have f27 : σ24 q5 = some (oI D 3 (upd (upd (upd ((fun _ => (0 : Int32))) 0 (f 0)) 1 (f 1)) 2 (f 2))) := by rw [← hσ24]; exact up_s _ _ _
  have hE28 : Ext [h] σ σ24 := by rw [← hσ24]; exact Ext.upn hE23 fr9 _
  refine g_putF (T := TX2) (N := 3) (kf := 1) (v := .ref q5) hnm f25 (by simp) rfl in_X2 tyX2 tyX2_ok nmX2 (by decide) q256 rfl rfl rfl rfl rfl rfl 34 rfl dX2_init_31 ?_
  show G z cX2_init RX2 3 rX2_init D b ((up σ24 h (.inr (2, [.int n, .ref q5, .null])))) 1 3 34 [some (.ref h), some (.int n), some (.ref pa)] []
  generalize hσ29 : (up σ24 h (.inr (2, [.int n, .ref q5, .null]))) = σ29
  have f30 : σ29 h = some (.inr (2, [.int n, .ref q5, .null])) := by rw [← hσ29]; exact up_s _ _ _
  have f31 : σ29 pa = some (oI D 6 f) := by rw [← hσ29]; exact (up_n (Ne.symm (ne_oI f25 f26))).trans f26
  have f32 : σ29 q5 = some (oI D 3 (upd (upd (upd ((fun _ => (0 : Int32))) 0 (f 0)) 1 (f 1)) 2 (f 2))) := by rw [← hσ29]; exact (up_n (Ne.symm ne7)).trans f27
  have hE33 : Ext [h] σ σ29 := by rw [← hσ29]; exact Ext.upm hE28 (by simp) _
  refine g_aload_n rfl ld_0 35 rfl dX2_init_34 ?_
  refine g_iconst (v := 3) (by decide) 36 rfl dX2_init_35 ?_
  refine g_newaI (N := 3) 2 6 q165 (show (3 : Int32) = nI 3 from rfl) (by decide) rfl rfl (Nat.le_of_ble_eq_true rfl) (Nat.le_of_ble_eq_true rfl) 38 rfl dX2_init_36 (fun q34 hq34 hq34b => ?_)
  have ne36 : h ≠ q34 := ne_fresh hq34 f30
  have ne37 : pa ≠ q34 := ne_fresh hq34 f31
  have ne38 : q5 ≠ q34 := ne_fresh hq34 f32
  have fr39 : σ q34 = none := Ext.nn hE33 hq34 (not_in1 (Ne.symm ne36))
  show G z cX2_init RX2 3 rX2_init D b ((up σ29 q34 (oI D 3 ((fun _ => (0 : Int32)))))) 2 6 38 [some (.ref h), some (.int n), some (.ref pa)] [.ref q34, .ref h]
  generalize hσ35 : (up σ29 q34 (oI D 3 ((fun _ => (0 : Int32))))) = σ35
  have f40 : σ35 h = some (.inr (2, [.int n, .ref q5, .null])) := by rw [← hσ35]; exact (up_n ne36).trans f30
  have f41 : σ35 pa = some (oI D 6 f) := by rw [← hσ35]; exact (up_n ne37).trans f31
  have f42 : σ35 q5 = some (oI D 3 (upd (upd (upd ((fun _ => (0 : Int32))) 0 (f 0)) 1 (f 1)) 2 (f 2))) := by rw [← hσ35]; exact (up_n ne38).trans f32
  have f43 : σ35 q34 = some (oI D 3 ((fun _ => (0 : Int32)))) := by rw [← hσ35]; exact up_s _ _ _
  have hE44 : Ext [h] σ σ35 := by rw [← hσ35]; exact Ext.upn hE33 fr39 _
  refine g_dup rfl 39 rfl dX2_init_38 ?_
  refine g_iconst (v := 0) (by decide) 40 rfl dX2_init_39 ?_
  refine g_aload_n rfl ld_2 41 rfl dX2_init_40 ?_
  refine g_iconst (v := 3) (by decide) 42 rfl dX2_init_41 ?_
  refine g_iald (j := 3) (f := f) f41 (show (3 : Int32) = nI 3 from rfl) (by omega) (by decide) 43 rfl dX2_init_42 ?_
  refine g_iast (j := 0) f43 (show (0 : Int32) = nI 0 from rfl) (by omega) (by decide) 44 rfl dX2_init_43 ?_
  show G z cX2_init RX2 3 rX2_init D b ((up σ35 q34 (oI D 3 (upd ((fun _ => (0 : Int32))) 0 (f 3))))) 2 6 44 [some (.ref h), some (.int n), some (.ref pa)] [.ref q34, .ref h]
  generalize hσ45 : (up σ35 q34 (oI D 3 (upd ((fun _ => (0 : Int32))) 0 (f 3)))) = σ45
  have f46 : σ45 h = some (.inr (2, [.int n, .ref q5, .null])) := by rw [← hσ45]; exact (up_n ne36).trans f40
  have f47 : σ45 pa = some (oI D 6 f) := by rw [← hσ45]; exact (up_n ne37).trans f41
  have f48 : σ45 q5 = some (oI D 3 (upd (upd (upd ((fun _ => (0 : Int32))) 0 (f 0)) 1 (f 1)) 2 (f 2))) := by rw [← hσ45]; exact (up_n ne38).trans f42
  have f49 : σ45 q34 = some (oI D 3 (upd ((fun _ => (0 : Int32))) 0 (f 3))) := by rw [← hσ45]; exact up_s _ _ _
  have hE50 : Ext [h] σ σ45 := by rw [← hσ45]; exact Ext.upn hE44 fr39 _
  refine g_dup rfl 45 rfl dX2_init_44 ?_
  refine g_iconst (v := 1) (by decide) 46 rfl dX2_init_45 ?_
  refine g_aload_n rfl ld_2 47 rfl dX2_init_46 ?_
  refine g_iconst (v := 4) (by decide) 48 rfl dX2_init_47 ?_
  refine g_iald (j := 4) (f := f) f47 (show (4 : Int32) = nI 4 from rfl) (by omega) (by decide) 49 rfl dX2_init_48 ?_
  refine g_iast (j := 1) f49 (show (1 : Int32) = nI 1 from rfl) (by omega) (by decide) 50 rfl dX2_init_49 ?_
  show G z cX2_init RX2 3 rX2_init D b ((up σ45 q34 (oI D 3 (upd (upd ((fun _ => (0 : Int32))) 0 (f 3)) 1 (f 4))))) 2 6 50 [some (.ref h), some (.int n), some (.ref pa)] [.ref q34, .ref h]
  generalize hσ51 : (up σ45 q34 (oI D 3 (upd (upd ((fun _ => (0 : Int32))) 0 (f 3)) 1 (f 4)))) = σ51
  have f52 : σ51 h = some (.inr (2, [.int n, .ref q5, .null])) := by rw [← hσ51]; exact (up_n ne36).trans f46
  have f53 : σ51 pa = some (oI D 6 f) := by rw [← hσ51]; exact (up_n ne37).trans f47
  have f54 : σ51 q5 = some (oI D 3 (upd (upd (upd ((fun _ => (0 : Int32))) 0 (f 0)) 1 (f 1)) 2 (f 2))) := by rw [← hσ51]; exact (up_n ne38).trans f48
  have f55 : σ51 q34 = some (oI D 3 (upd (upd ((fun _ => (0 : Int32))) 0 (f 3)) 1 (f 4))) := by rw [← hσ51]; exact up_s _ _ _
  have hE56 : Ext [h] σ σ51 := by rw [← hσ51]; exact Ext.upn hE50 fr39 _
  refine g_dup rfl 51 rfl dX2_init_50 ?_
  refine g_iconst (v := 2) (by decide) 52 rfl dX2_init_51 ?_
  refine g_aload_n rfl ld_2 53 rfl dX2_init_52 ?_
  refine g_iconst (v := 5) (by decide) 54 rfl dX2_init_53 ?_
  refine g_iald (j := 5) (f := f) f53 (show (5 : Int32) = nI 5 from rfl) (by omega) (by decide) 55 rfl dX2_init_54 ?_
  refine g_iast (j := 2) f55 (show (2 : Int32) = nI 2 from rfl) (by omega) (by decide) 56 rfl dX2_init_55 ?_
  show G z cX2_init RX2 3 rX2_init D b ((up σ51 q34 (oI D 3 (upd (upd (upd ((fun _ => (0 : Int32))) 0 (f 3)) 1 (f 4)) 2 (f 5))))) 2 6 56 [some (.ref h), some (.int n), some (.ref pa)] [.ref q34, .ref h]
  generalize hσ57 : (up σ51 q34 (oI D 3 (upd (upd (upd ((fun _ => (0 : Int32))) 0 (f 3)) 1 (f 4)) 2 (f 5)))) = σ57
  have f58 : σ57 h = some (.inr (2, [.int n, .ref q5, .null])) := by rw [← hσ57]; exact (up_n ne36).trans f52
  have f59 : σ57 pa = some (oI D 6 f) := by rw [← hσ57]; exact (up_n ne37).trans f53
  have f60 : σ57 q5 = some (oI D 3 (upd (upd (upd ((fun _ => (0 : Int32))) 0 (f 0)) 1 (f 1)) 2 (f 2))) := by rw [← hσ57]; exact (up_n ne38).trans f54
  have f61 : σ57 q34 = some (oI D 3 (upd (upd (upd ((fun _ => (0 : Int32))) 0 (f 3)) 1 (f 4)) 2 (f 5))) := by rw [← hσ57]; exact up_s _ _ _
  have hE62 : Ext [h] σ σ57 := by rw [← hσ57]; exact Ext.upn hE56 fr39 _
  refine g_putF (T := TX2) (N := 3) (kf := 2) (v := .ref q34) hnm f58 (by simp) rfl in_X2 tyX2 tyX2_ok nmX2 (by decide) q258 rfl rfl rfl rfl rfl rfl 59 rfl dX2_init_56 ?_
  show G z cX2_init RX2 3 rX2_init D b ((up σ57 h (.inr (2, [.int n, .ref q5, .ref q34])))) 2 6 59 [some (.ref h), some (.int n), some (.ref pa)] []
  generalize hσ63 : (up σ57 h (.inr (2, [.int n, .ref q5, .ref q34]))) = σ63
  have f64 : σ63 h = some (.inr (2, [.int n, .ref q5, .ref q34])) := by rw [← hσ63]; exact up_s _ _ _
  have f65 : σ63 pa = some (oI D 6 f) := by rw [← hσ63]; exact (up_n (Ne.symm (ne_oI f58 f59))).trans f59
  have f66 : σ63 q5 = some (oI D 3 (upd (upd (upd ((fun _ => (0 : Int32))) 0 (f 0)) 1 (f 1)) 2 (f 2))) := by rw [← hσ63]; exact (up_n (Ne.symm ne7)).trans f60
  have f67 : σ63 q34 = some (oI D 3 (upd (upd (upd ((fun _ => (0 : Int32))) 0 (f 3)) 1 (f 4)) 2 (f 5))) := by rw [← hσ63]; exact (up_n (Ne.symm ne36)).trans f61
  have hE68 : Ext [h] σ σ63 := by rw [← hσ63]; exact Ext.upm hE62 (by simp) _
  exact g_vret hR (Nat.le_of_ble_eq_true rfl) (Nat.le_of_ble_eq_true rfl) ⟨rfl, hE68, _, _, f64, f66, f67⟩ dX2_init_59
def rX2_moved : Room := { frames := 2, cells := 4, slots := 15, locals := 34 }
theorem k_X2_moved : CV yX2_moved cX2_moved 4 (some (.object "DepthSorter$Box")) 3 := ⟨q338, q339, q82, q340, by decide +kernel, by decide +kernel, by decide +kernel⟩
set_option maxHeartbeats 2000000 in
theorem c_X2_moved (l : Launch) (D : DD) (b : Nat) {σ : Hp} {q lo hi : Nat} {n : Int32} {f g : Nat → Int32} (hB : BxA D σ q lo hi n f g) (dx dy dz : Int32) : CM l yX2_moved cX2_moved 4 (some (.object "DepthSorter$Box")) rX2_moved D b [.ref q, .int dx, .int dy, .int dz] σ (PR (fun r σ' => Ext [] σ σ' ∧ ∃ lo hi, BxA D σ' r lo hi n (t3 (f 0 + dx) (f 1 + dy) (f 2 + dz)) (t3 (g 0 + dx) (g 1 + dy) (g 2 + dz)))) := by
  refine CM_of [some (.ref q), some (.int dx), some (.int dy), some (.int dz)] RX2 (by decide) rfl (cat_all rfl) (Nat.le_of_ble_eq_true rfl) rfl ?_
  intro z hz hR hnm
  refine g_new (C := "DepthSorter$Box") (T := TX2) (N := 3) (ci := 2) (fs := [.int ((0 : Int32)), .null, .null]) 1 3 rfl in_X2 tyX2 tyX2_ok (by decide) q341 q249 q82 rfl rfl (Nat.le_of_ble_eq_true rfl) (Nat.le_of_ble_eq_true rfl) 3 rfl dX2_moved_0 (fun q1 hq1 hq1b => ?_)
  have ne3 : q ≠ q1 := ne_fresh hq1 hB.1
  have ne4 : lo ≠ q1 := ne_fresh hq1 hB.2.1
  have ne5 : hi ≠ q1 := ne_fresh hq1 hB.2.2
  have fr6 : σ q1 = none := Ext.nn (Ext.refl _ _) hq1 not_in0
  show G z cX2_moved RX2 4 rX2_moved D b ((up σ q1 (.inr (2, [.int ((0 : Int32)), .null, .null])))) 1 3 3 [some (.ref q), some (.int dx), some (.int dy), some (.int dz)] [.ref q1]
  generalize hσ2 : (up σ q1 (.inr (2, [.int ((0 : Int32)), .null, .null]))) = σ2
  have f7 : σ2 q = some (.inr (2, [.int n, .ref lo, .ref hi])) := by rw [← hσ2]; exact (up_n ne3).trans hB.1
  have f8 : σ2 q1 = some (.inr (2, [.int ((0 : Int32)), .null, .null])) := by rw [← hσ2]; exact up_s _ _ _
  have f9 : σ2 lo = some (oI D 3 f) := by rw [← hσ2]; exact (up_n ne4).trans hB.2.1
  have f10 : σ2 hi = some (oI D 3 g) := by rw [← hσ2]; exact (up_n ne5).trans hB.2.2
  have hE11 : Ext [] σ σ2 := by rw [← hσ2]; exact Ext.upn (Ext.refl _ _) fr6 _
  refine g_dup rfl 4 rfl dX2_moved_3 ?_
  refine g_aload_n rfl ld_0 5 rfl dX2_moved_4 ?_
  refine g_getf (kf := 0) f7 rfl rfl in_X2 (by decide) q254 rfl 8 rfl dX2_moved_5 ?_
  refine g_bipush (v := 6) (by decide) 10 rfl dX2_moved_8 ?_
  refine g_newaI (N := 6) 2 9 q165 (show (6 : Int32) = nI 6 from rfl) (by decide) rfl rfl (Nat.le_of_ble_eq_true rfl) (Nat.le_of_ble_eq_true rfl) 12 rfl dX2_moved_10 (fun q12 hq12 hq12b => ?_)
  have ne14 : q ≠ q12 := ne_fresh hq12 f7
  have ne15 : q1 ≠ q12 := ne_fresh hq12 f8
  have ne16 : lo ≠ q12 := ne_fresh hq12 f9
  have ne17 : hi ≠ q12 := ne_fresh hq12 f10
  have fr18 : σ q12 = none := Ext.nn hE11 hq12 not_in0
  show G z cX2_moved RX2 4 rX2_moved D b ((up σ2 q12 (oI D 6 ((fun _ => (0 : Int32)))))) 2 9 12 [some (.ref q), some (.int dx), some (.int dy), some (.int dz)] [.ref q12, .int n, .ref q1, .ref q1]
  generalize hσ13 : (up σ2 q12 (oI D 6 ((fun _ => (0 : Int32))))) = σ13
  have f19 : σ13 q = some (.inr (2, [.int n, .ref lo, .ref hi])) := by rw [← hσ13]; exact (up_n ne14).trans f7
  have f20 : σ13 q1 = some (.inr (2, [.int ((0 : Int32)), .null, .null])) := by rw [← hσ13]; exact (up_n ne15).trans f8
  have f21 : σ13 lo = some (oI D 3 f) := by rw [← hσ13]; exact (up_n ne16).trans f9
  have f22 : σ13 hi = some (oI D 3 g) := by rw [← hσ13]; exact (up_n ne17).trans f10
  have f23 : σ13 q12 = some (oI D 6 ((fun _ => (0 : Int32)))) := by rw [← hσ13]; exact up_s _ _ _
  have hE24 : Ext [] σ σ13 := by rw [← hσ13]; exact Ext.upn hE11 fr18 _
  refine g_dup rfl 13 rfl dX2_moved_12 ?_
  refine g_iconst (v := 0) (by decide) 14 rfl dX2_moved_13 ?_
  refine g_aload_n rfl ld_0 15 rfl dX2_moved_14 ?_
  refine g_getf (kf := 1) f19 rfl rfl in_X2 (by decide) q256 rfl 18 rfl dX2_moved_15 ?_
  refine g_iconst (v := 0) (by decide) 19 rfl dX2_moved_18 ?_
  refine g_iald (j := 0) (f := f) f21 (show (0 : Int32) = nI 0 from rfl) (by omega) (by decide) 20 rfl dX2_moved_19 ?_
  refine g_iload_n rfl ld_1 21 rfl dX2_moved_20 ?_
  refine g_iadd 22 rfl dX2_moved_21 ?_
  refine g_iast (j := 0) f23 (show (0 : Int32) = nI 0 from rfl) (by omega) (by decide) 23 rfl dX2_moved_22 ?_
  show G z cX2_moved RX2 4 rX2_moved D b ((up σ13 q12 (oI D 6 (upd ((fun _ => (0 : Int32))) 0 ((f 0) + dx))))) 2 9 23 [some (.ref q), some (.int dx), some (.int dy), some (.int dz)] [.ref q12, .int n, .ref q1, .ref q1]
  generalize hσ25 : (up σ13 q12 (oI D 6 (upd ((fun _ => (0 : Int32))) 0 ((f 0) + dx)))) = σ25
  have f26 : σ25 q = some (.inr (2, [.int n, .ref lo, .ref hi])) := by rw [← hσ25]; exact (up_n ne14).trans f19
  have f27 : σ25 q1 = some (.inr (2, [.int ((0 : Int32)), .null, .null])) := by rw [← hσ25]; exact (up_n ne15).trans f20
  have f28 : σ25 lo = some (oI D 3 f) := by rw [← hσ25]; exact (up_n ne16).trans f21
  have f29 : σ25 hi = some (oI D 3 g) := by rw [← hσ25]; exact (up_n ne17).trans f22
  have f30 : σ25 q12 = some (oI D 6 (upd ((fun _ => (0 : Int32))) 0 ((f 0) + dx))) := by rw [← hσ25]; exact up_s _ _ _
  have hE31 : Ext [] σ σ25 := by rw [← hσ25]; exact Ext.upn hE24 fr18 _
  refine g_dup rfl 24 rfl dX2_moved_23 ?_
  refine g_iconst (v := 1) (by decide) 25 rfl dX2_moved_24 ?_
  refine g_aload_n rfl ld_0 26 rfl dX2_moved_25 ?_
  refine g_getf (kf := 1) f26 rfl rfl in_X2 (by decide) q256 rfl 29 rfl dX2_moved_26 ?_
  refine g_iconst (v := 1) (by decide) 30 rfl dX2_moved_29 ?_
  refine g_iald (j := 1) (f := f) f28 (show (1 : Int32) = nI 1 from rfl) (by omega) (by decide) 31 rfl dX2_moved_30 ?_
  refine g_iload_n rfl ld_2 32 rfl dX2_moved_31 ?_
  refine g_iadd 33 rfl dX2_moved_32 ?_
  refine g_iast (j := 1) f30 (show (1 : Int32) = nI 1 from rfl) (by omega) (by decide) 34 rfl dX2_moved_33 ?_
  show G z cX2_moved RX2 4 rX2_moved D b ((up σ25 q12 (oI D 6 (upd (upd ((fun _ => (0 : Int32))) 0 ((f 0) + dx)) 1 ((f 1) + dy))))) 2 9 34 [some (.ref q), some (.int dx), some (.int dy), some (.int dz)] [.ref q12, .int n, .ref q1, .ref q1]
  generalize hσ32 : (up σ25 q12 (oI D 6 (upd (upd ((fun _ => (0 : Int32))) 0 ((f 0) + dx)) 1 ((f 1) + dy)))) = σ32
  have f33 : σ32 q = some (.inr (2, [.int n, .ref lo, .ref hi])) := by rw [← hσ32]; exact (up_n ne14).trans f26
  have f34 : σ32 q1 = some (.inr (2, [.int ((0 : Int32)), .null, .null])) := by rw [← hσ32]; exact (up_n ne15).trans f27
  have f35 : σ32 lo = some (oI D 3 f) := by rw [← hσ32]; exact (up_n ne16).trans f28
  have f36 : σ32 hi = some (oI D 3 g) := by rw [← hσ32]; exact (up_n ne17).trans f29
  have f37 : σ32 q12 = some (oI D 6 (upd (upd ((fun _ => (0 : Int32))) 0 ((f 0) + dx)) 1 ((f 1) + dy))) := by rw [← hσ32]; exact up_s _ _ _
  have hE38 : Ext [] σ σ32 := by rw [← hσ32]; exact Ext.upn hE31 fr18 _
  refine g_dup rfl 35 rfl dX2_moved_34 ?_
  refine g_iconst (v := 2) (by decide) 36 rfl dX2_moved_35 ?_
  refine g_aload_n rfl ld_0 37 rfl dX2_moved_36 ?_
  refine g_getf (kf := 1) f33 rfl rfl in_X2 (by decide) q256 rfl 40 rfl dX2_moved_37 ?_
  refine g_iconst (v := 2) (by decide) 41 rfl dX2_moved_40 ?_
  refine g_iald (j := 2) (f := f) f35 (show (2 : Int32) = nI 2 from rfl) (by omega) (by decide) 42 rfl dX2_moved_41 ?_
  refine g_iload_n rfl ld_3 43 rfl dX2_moved_42 ?_
  refine g_iadd 44 rfl dX2_moved_43 ?_
  refine g_iast (j := 2) f37 (show (2 : Int32) = nI 2 from rfl) (by omega) (by decide) 45 rfl dX2_moved_44 ?_
  show G z cX2_moved RX2 4 rX2_moved D b ((up σ32 q12 (oI D 6 (upd (upd (upd ((fun _ => (0 : Int32))) 0 ((f 0) + dx)) 1 ((f 1) + dy)) 2 ((f 2) + dz))))) 2 9 45 [some (.ref q), some (.int dx), some (.int dy), some (.int dz)] [.ref q12, .int n, .ref q1, .ref q1]
  generalize hσ39 : (up σ32 q12 (oI D 6 (upd (upd (upd ((fun _ => (0 : Int32))) 0 ((f 0) + dx)) 1 ((f 1) + dy)) 2 ((f 2) + dz)))) = σ39
  have f40 : σ39 q = some (.inr (2, [.int n, .ref lo, .ref hi])) := by rw [← hσ39]; exact (up_n ne14).trans f33
  have f41 : σ39 q1 = some (.inr (2, [.int ((0 : Int32)), .null, .null])) := by rw [← hσ39]; exact (up_n ne15).trans f34
  have f42 : σ39 lo = some (oI D 3 f) := by rw [← hσ39]; exact (up_n ne16).trans f35
  have f43 : σ39 hi = some (oI D 3 g) := by rw [← hσ39]; exact (up_n ne17).trans f36
  have f44 : σ39 q12 = some (oI D 6 (upd (upd (upd ((fun _ => (0 : Int32))) 0 ((f 0) + dx)) 1 ((f 1) + dy)) 2 ((f 2) + dz))) := by rw [← hσ39]; exact up_s _ _ _
  have hE45 : Ext [] σ σ39 := by rw [← hσ39]; exact Ext.upn hE38 fr18 _
  refine g_dup rfl 46 rfl dX2_moved_45 ?_
  refine g_iconst (v := 3) (by decide) 47 rfl dX2_moved_46 ?_
  refine g_aload_n rfl ld_0 48 rfl dX2_moved_47 ?_
  refine g_getf (kf := 2) f40 rfl rfl in_X2 (by decide) q258 rfl 51 rfl dX2_moved_48 ?_
  refine g_iconst (v := 0) (by decide) 52 rfl dX2_moved_51 ?_
  refine g_iald (j := 0) (f := g) f43 (show (0 : Int32) = nI 0 from rfl) (by omega) (by decide) 53 rfl dX2_moved_52 ?_
  refine g_iload_n rfl ld_1 54 rfl dX2_moved_53 ?_
  refine g_iadd 55 rfl dX2_moved_54 ?_
  refine g_iast (j := 3) f44 (show (3 : Int32) = nI 3 from rfl) (by omega) (by decide) 56 rfl dX2_moved_55 ?_
  show G z cX2_moved RX2 4 rX2_moved D b ((up σ39 q12 (oI D 6 (upd (upd (upd (upd ((fun _ => (0 : Int32))) 0 ((f 0) + dx)) 1 ((f 1) + dy)) 2 ((f 2) + dz)) 3 ((g 0) + dx))))) 2 9 56 [some (.ref q), some (.int dx), some (.int dy), some (.int dz)] [.ref q12, .int n, .ref q1, .ref q1]
  generalize hσ46 : (up σ39 q12 (oI D 6 (upd (upd (upd (upd ((fun _ => (0 : Int32))) 0 ((f 0) + dx)) 1 ((f 1) + dy)) 2 ((f 2) + dz)) 3 ((g 0) + dx)))) = σ46
  have f47 : σ46 q = some (.inr (2, [.int n, .ref lo, .ref hi])) := by rw [← hσ46]; exact (up_n ne14).trans f40
  have f48 : σ46 q1 = some (.inr (2, [.int ((0 : Int32)), .null, .null])) := by rw [← hσ46]; exact (up_n ne15).trans f41
  have f49 : σ46 lo = some (oI D 3 f) := by rw [← hσ46]; exact (up_n ne16).trans f42
  have f50 : σ46 hi = some (oI D 3 g) := by rw [← hσ46]; exact (up_n ne17).trans f43
  have f51 : σ46 q12 = some (oI D 6 (upd (upd (upd (upd ((fun _ => (0 : Int32))) 0 ((f 0) + dx)) 1 ((f 1) + dy)) 2 ((f 2) + dz)) 3 ((g 0) + dx))) := by rw [← hσ46]; exact up_s _ _ _
  have hE52 : Ext [] σ σ46 := by rw [← hσ46]; exact Ext.upn hE45 fr18 _
  refine g_dup rfl 57 rfl dX2_moved_56 ?_
  refine g_iconst (v := 4) (by decide) 58 rfl dX2_moved_57 ?_
  refine g_aload_n rfl ld_0 59 rfl dX2_moved_58 ?_
  refine g_getf (kf := 2) f47 rfl rfl in_X2 (by decide) q258 rfl 62 rfl dX2_moved_59 ?_
  refine g_iconst (v := 1) (by decide) 63 rfl dX2_moved_62 ?_
  refine g_iald (j := 1) (f := g) f50 (show (1 : Int32) = nI 1 from rfl) (by omega) (by decide) 64 rfl dX2_moved_63 ?_
  refine g_iload_n rfl ld_2 65 rfl dX2_moved_64 ?_
  refine g_iadd 66 rfl dX2_moved_65 ?_
  refine g_iast (j := 4) f51 (show (4 : Int32) = nI 4 from rfl) (by omega) (by decide) 67 rfl dX2_moved_66 ?_
  show G z cX2_moved RX2 4 rX2_moved D b ((up σ46 q12 (oI D 6 (upd (upd (upd (upd (upd ((fun _ => (0 : Int32))) 0 ((f 0) + dx)) 1 ((f 1) + dy)) 2 ((f 2) + dz)) 3 ((g 0) + dx)) 4 ((g 1) + dy))))) 2 9 67 [some (.ref q), some (.int dx), some (.int dy), some (.int dz)] [.ref q12, .int n, .ref q1, .ref q1]
  generalize hσ53 : (up σ46 q12 (oI D 6 (upd (upd (upd (upd (upd ((fun _ => (0 : Int32))) 0 ((f 0) + dx)) 1 ((f 1) + dy)) 2 ((f 2) + dz)) 3 ((g 0) + dx)) 4 ((g 1) + dy)))) = σ53
  have f54 : σ53 q = some (.inr (2, [.int n, .ref lo, .ref hi])) := by rw [← hσ53]; exact (up_n ne14).trans f47
  have f55 : σ53 q1 = some (.inr (2, [.int ((0 : Int32)), .null, .null])) := by rw [← hσ53]; exact (up_n ne15).trans f48
  have f56 : σ53 lo = some (oI D 3 f) := by rw [← hσ53]; exact (up_n ne16).trans f49
  have f57 : σ53 hi = some (oI D 3 g) := by rw [← hσ53]; exact (up_n ne17).trans f50
  have f58 : σ53 q12 = some (oI D 6 (upd (upd (upd (upd (upd ((fun _ => (0 : Int32))) 0 ((f 0) + dx)) 1 ((f 1) + dy)) 2 ((f 2) + dz)) 3 ((g 0) + dx)) 4 ((g 1) + dy))) := by rw [← hσ53]; exact up_s _ _ _
  have hE59 : Ext [] σ σ53 := by rw [← hσ53]; exact Ext.upn hE52 fr18 _
  refine g_dup rfl 68 rfl dX2_moved_67 ?_
  refine g_iconst (v := 5) (by decide) 69 rfl dX2_moved_68 ?_
  refine g_aload_n rfl ld_0 70 rfl dX2_moved_69 ?_
  refine g_getf (kf := 2) f54 rfl rfl in_X2 (by decide) q258 rfl 73 rfl dX2_moved_70 ?_
  refine g_iconst (v := 2) (by decide) 74 rfl dX2_moved_73 ?_
  refine g_iald (j := 2) (f := g) f57 (show (2 : Int32) = nI 2 from rfl) (by omega) (by decide) 75 rfl dX2_moved_74 ?_
  refine g_iload_n rfl ld_3 76 rfl dX2_moved_75 ?_
  refine g_iadd 77 rfl dX2_moved_76 ?_
  refine g_iast (j := 5) f58 (show (5 : Int32) = nI 5 from rfl) (by omega) (by decide) 78 rfl dX2_moved_77 ?_
  show G z cX2_moved RX2 4 rX2_moved D b ((up σ53 q12 (oI D 6 (upd (upd (upd (upd (upd (upd ((fun _ => (0 : Int32))) 0 ((f 0) + dx)) 1 ((f 1) + dy)) 2 ((f 2) + dz)) 3 ((g 0) + dx)) 4 ((g 1) + dy)) 5 ((g 2) + dz))))) 2 9 78 [some (.ref q), some (.int dx), some (.int dy), some (.int dz)] [.ref q12, .int n, .ref q1, .ref q1]
  generalize hσ60 : (up σ53 q12 (oI D 6 (upd (upd (upd (upd (upd (upd ((fun _ => (0 : Int32))) 0 ((f 0) + dx)) 1 ((f 1) + dy)) 2 ((f 2) + dz)) 3 ((g 0) + dx)) 4 ((g 1) + dy)) 5 ((g 2) + dz)))) = σ60
  have f61 : σ60 q = some (.inr (2, [.int n, .ref lo, .ref hi])) := by rw [← hσ60]; exact (up_n ne14).trans f54
  have f62 : σ60 q1 = some (.inr (2, [.int ((0 : Int32)), .null, .null])) := by rw [← hσ60]; exact (up_n ne15).trans f55
  have f63 : σ60 lo = some (oI D 3 f) := by rw [← hσ60]; exact (up_n ne16).trans f56
  have f64 : σ60 hi = some (oI D 3 g) := by rw [← hσ60]; exact (up_n ne17).trans f57
  have f65 : σ60 q12 = some (oI D 6 (upd (upd (upd (upd (upd (upd ((fun _ => (0 : Int32))) 0 ((f 0) + dx)) 1 ((f 1) + dy)) 2 ((f 2) + dz)) 3 ((g 0) + dx)) 4 ((g 1) + dy)) 5 ((g 2) + dz))) := by rw [← hσ60]; exact up_s _ _ _
  have hE66 : Ext [] σ σ60 := by rw [← hσ60]; exact Ext.upn hE59 fr18 _
  refine g_callI (As := [.int n, .ref q12]) (rest := [.ref q1]) (c_X2_init (c0 := (f 0 + dx)) (c1 := (f 1 + dy)) (c2 := (f 2 + dz)) (c3 := (g 0 + dx)) (c4 := (g 1 + dy)) (c5 := (g 2 + dz)) z.l D b f62 n f65 (by simp [upd]) (by simp [upd]) (by simp [upd]) (by simp [upd]) (by simp [upd]) (by simp [upd])) k_X2_init q342 rfl rfl (Nat.le_of_ble_eq_true rfl) ⟨Nat.le_of_ble_eq_true rfl, Nat.le_of_ble_eq_true rfl⟩ 4 15 (Nat.le_of_ble_eq_true rfl) (Nat.le_of_ble_eq_true rfl) (Nat.le_of_ble_eq_true rfl) (Nat.le_of_ble_eq_true rfl) 81 rfl dX2_moved_78 (fun v σ70 hq => ?_)
  obtain ⟨rfl, hx71, lo67, hi68, hb69⟩ := hq
  have f72 : σ70 q = some (.inr (2, [.int n, .ref lo, .ref hi])) := hx71.fact (not_in1 ne3) f61
  have f73 : σ70 lo = some (oI D 3 f) := hx71.fact (not_in1 ne4) f63
  have f74 : σ70 hi = some (oI D 3 g) := hx71.fact (not_in1 ne5) f64
  have f75 : σ70 q12 = some (oI D 6 (upd (upd (upd (upd (upd (upd ((fun _ => (0 : Int32))) 0 ((f 0) + dx)) 1 ((f 1) + dy)) 2 ((f 2) + dz)) 3 ((g 0) + dx)) 4 ((g 1) + dy)) 5 ((g 2) + dz))) := hx71.fact (not_in1 (Ne.symm ne15)) f65
  have hE76 : Ext [] σ σ70 := Ext.call hE66 hx71 (fun a ha => by rw [List.mem_singleton] at ha; subst ha; exact Or.inr fr6)
  exact g_aret hR (Or.inl ⟨_, rfl⟩) (Or.inr ⟨_, rfl⟩) (Nat.le_of_ble_eq_true rfl) (Nat.le_of_ble_eq_true rfl) ⟨_, rfl, hE76, _, _, hb69⟩ dX2_moved_81
def rX2_turned : Room := { frames := 2, cells := 4, slots := 15, locals := 34 }
theorem k_X2_turned : CV yX2_turned cX2_turned 1 (some (.object "DepthSorter$Box")) 0 := ⟨q387, q388, q82, q389, by decide +kernel, by decide +kernel, by decide +kernel⟩
set_option maxHeartbeats 2000000 in
theorem c_X2_turned (l : Launch) (D : DD) (b : Nat) {σ : Hp} {q lo hi : Nat} {n : Int32} {f g : Nat → Int32} (hB : BxA D σ q lo hi n f g) : CM l yX2_turned cX2_turned 1 (some (.object "DepthSorter$Box")) rX2_turned D b [.ref q] σ (PR (fun r σ' => Ext [] σ σ' ∧ ∃ lo hi, BxA D σ' r lo hi n (t3 (32 - g 1) (f 0) (f 2)) (t3 (32 - f 1) (g 0) (g 2)))) := by
  refine CM_of [some (.ref q)] RX2 (by decide) rfl (cat_all rfl) (Nat.le_of_ble_eq_true rfl) rfl ?_
  intro z hz hR hnm
  refine g_new (C := "DepthSorter$Box") (T := TX2) (N := 3) (ci := 2) (fs := [.int ((0 : Int32)), .null, .null]) 1 3 rfl in_X2 tyX2 tyX2_ok (by decide) q341 q249 q82 rfl rfl (Nat.le_of_ble_eq_true rfl) (Nat.le_of_ble_eq_true rfl) 3 rfl dX2_turned_0 (fun q1 hq1 hq1b => ?_)
  have ne3 : q ≠ q1 := ne_fresh hq1 hB.1
  have ne4 : lo ≠ q1 := ne_fresh hq1 hB.2.1
  have ne5 : hi ≠ q1 := ne_fresh hq1 hB.2.2
  have fr6 : σ q1 = none := Ext.nn (Ext.refl _ _) hq1 not_in0
  show G z cX2_turned RX2 1 rX2_turned D b ((up σ q1 (.inr (2, [.int ((0 : Int32)), .null, .null])))) 1 3 3 [some (.ref q)] [.ref q1]
  generalize hσ2 : (up σ q1 (.inr (2, [.int ((0 : Int32)), .null, .null]))) = σ2
  have f7 : σ2 q = some (.inr (2, [.int n, .ref lo, .ref hi])) := by rw [← hσ2]; exact (up_n ne3).trans hB.1
  have f8 : σ2 q1 = some (.inr (2, [.int ((0 : Int32)), .null, .null])) := by rw [← hσ2]; exact up_s _ _ _
  have f9 : σ2 lo = some (oI D 3 f) := by rw [← hσ2]; exact (up_n ne4).trans hB.2.1
  have f10 : σ2 hi = some (oI D 3 g) := by rw [← hσ2]; exact (up_n ne5).trans hB.2.2
  have hE11 : Ext [] σ σ2 := by rw [← hσ2]; exact Ext.upn (Ext.refl _ _) fr6 _
  refine g_dup rfl 4 rfl dX2_turned_3 ?_
  refine g_aload_n rfl ld_0 5 rfl dX2_turned_4 ?_
  refine g_getf (kf := 0) f7 rfl rfl in_X2 (by decide) q254 rfl 8 rfl dX2_turned_5 ?_
  refine g_bipush (v := 6) (by decide) 10 rfl dX2_turned_8 ?_
  refine g_newaI (N := 6) 2 9 q165 (show (6 : Int32) = nI 6 from rfl) (by decide) rfl rfl (Nat.le_of_ble_eq_true rfl) (Nat.le_of_ble_eq_true rfl) 12 rfl dX2_turned_10 (fun q12 hq12 hq12b => ?_)
  have ne14 : q ≠ q12 := ne_fresh hq12 f7
  have ne15 : q1 ≠ q12 := ne_fresh hq12 f8
  have ne16 : lo ≠ q12 := ne_fresh hq12 f9
  have ne17 : hi ≠ q12 := ne_fresh hq12 f10
  have fr18 : σ q12 = none := Ext.nn hE11 hq12 not_in0
  show G z cX2_turned RX2 1 rX2_turned D b ((up σ2 q12 (oI D 6 ((fun _ => (0 : Int32)))))) 2 9 12 [some (.ref q)] [.ref q12, .int n, .ref q1, .ref q1]
  generalize hσ13 : (up σ2 q12 (oI D 6 ((fun _ => (0 : Int32))))) = σ13
  have f19 : σ13 q = some (.inr (2, [.int n, .ref lo, .ref hi])) := by rw [← hσ13]; exact (up_n ne14).trans f7
  have f20 : σ13 q1 = some (.inr (2, [.int ((0 : Int32)), .null, .null])) := by rw [← hσ13]; exact (up_n ne15).trans f8
  have f21 : σ13 lo = some (oI D 3 f) := by rw [← hσ13]; exact (up_n ne16).trans f9
  have f22 : σ13 hi = some (oI D 3 g) := by rw [← hσ13]; exact (up_n ne17).trans f10
  have f23 : σ13 q12 = some (oI D 6 ((fun _ => (0 : Int32)))) := by rw [← hσ13]; exact up_s _ _ _
  have hE24 : Ext [] σ σ13 := by rw [← hσ13]; exact Ext.upn hE11 fr18 _
  refine g_dup rfl 13 rfl dX2_turned_12 ?_
  refine g_iconst (v := 0) (by decide) 14 rfl dX2_turned_13 ?_
  refine g_bipush (v := 32) (by decide) 16 rfl dX2_turned_14 ?_
  refine g_aload_n rfl ld_0 17 rfl dX2_turned_16 ?_
  refine g_getf (kf := 2) f19 rfl rfl in_X2 (by decide) q258 rfl 20 rfl dX2_turned_17 ?_
  refine g_iconst (v := 1) (by decide) 21 rfl dX2_turned_20 ?_
  refine g_iald (j := 1) (f := g) f22 (show (1 : Int32) = nI 1 from rfl) (by omega) (by decide) 22 rfl dX2_turned_21 ?_
  refine g_isub 23 rfl dX2_turned_22 ?_
  refine g_iast (j := 0) f23 (show (0 : Int32) = nI 0 from rfl) (by omega) (by decide) 24 rfl dX2_turned_23 ?_
  show G z cX2_turned RX2 1 rX2_turned D b ((up σ13 q12 (oI D 6 (upd ((fun _ => (0 : Int32))) 0 (((32 : Int32)) - (g 1)))))) 2 9 24 [some (.ref q)] [.ref q12, .int n, .ref q1, .ref q1]
  generalize hσ25 : (up σ13 q12 (oI D 6 (upd ((fun _ => (0 : Int32))) 0 (((32 : Int32)) - (g 1))))) = σ25
  have f26 : σ25 q = some (.inr (2, [.int n, .ref lo, .ref hi])) := by rw [← hσ25]; exact (up_n ne14).trans f19
  have f27 : σ25 q1 = some (.inr (2, [.int ((0 : Int32)), .null, .null])) := by rw [← hσ25]; exact (up_n ne15).trans f20
  have f28 : σ25 lo = some (oI D 3 f) := by rw [← hσ25]; exact (up_n ne16).trans f21
  have f29 : σ25 hi = some (oI D 3 g) := by rw [← hσ25]; exact (up_n ne17).trans f22
  have f30 : σ25 q12 = some (oI D 6 (upd ((fun _ => (0 : Int32))) 0 (((32 : Int32)) - (g 1)))) := by rw [← hσ25]; exact up_s _ _ _
  have hE31 : Ext [] σ σ25 := by rw [← hσ25]; exact Ext.upn hE24 fr18 _
  refine g_dup rfl 25 rfl dX2_turned_24 ?_
  refine g_iconst (v := 1) (by decide) 26 rfl dX2_turned_25 ?_
  refine g_aload_n rfl ld_0 27 rfl dX2_turned_26 ?_
  refine g_getf (kf := 1) f26 rfl rfl in_X2 (by decide) q256 rfl 30 rfl dX2_turned_27 ?_
  refine g_iconst (v := 0) (by decide) 31 rfl dX2_turned_30 ?_
  refine g_iald (j := 0) (f := f) f28 (show (0 : Int32) = nI 0 from rfl) (by omega) (by decide) 32 rfl dX2_turned_31 ?_
  refine g_iast (j := 1) f30 (show (1 : Int32) = nI 1 from rfl) (by omega) (by decide) 33 rfl dX2_turned_32 ?_
  show G z cX2_turned RX2 1 rX2_turned D b ((up σ25 q12 (oI D 6 (upd (upd ((fun _ => (0 : Int32))) 0 (((32 : Int32)) - (g 1))) 1 (f 0))))) 2 9 33 [some (.ref q)] [.ref q12, .int n, .ref q1, .ref q1]
  generalize hσ32 : (up σ25 q12 (oI D 6 (upd (upd ((fun _ => (0 : Int32))) 0 (((32 : Int32)) - (g 1))) 1 (f 0)))) = σ32
  have f33 : σ32 q = some (.inr (2, [.int n, .ref lo, .ref hi])) := by rw [← hσ32]; exact (up_n ne14).trans f26
  have f34 : σ32 q1 = some (.inr (2, [.int ((0 : Int32)), .null, .null])) := by rw [← hσ32]; exact (up_n ne15).trans f27
  have f35 : σ32 lo = some (oI D 3 f) := by rw [← hσ32]; exact (up_n ne16).trans f28
  have f36 : σ32 hi = some (oI D 3 g) := by rw [← hσ32]; exact (up_n ne17).trans f29
  have f37 : σ32 q12 = some (oI D 6 (upd (upd ((fun _ => (0 : Int32))) 0 (((32 : Int32)) - (g 1))) 1 (f 0))) := by rw [← hσ32]; exact up_s _ _ _
  have hE38 : Ext [] σ σ32 := by rw [← hσ32]; exact Ext.upn hE31 fr18 _
  refine g_dup rfl 34 rfl dX2_turned_33 ?_
  refine g_iconst (v := 2) (by decide) 35 rfl dX2_turned_34 ?_
  refine g_aload_n rfl ld_0 36 rfl dX2_turned_35 ?_
  refine g_getf (kf := 1) f33 rfl rfl in_X2 (by decide) q256 rfl 39 rfl dX2_turned_36 ?_
  refine g_iconst (v := 2) (by decide) 40 rfl dX2_turned_39 ?_
  refine g_iald (j := 2) (f := f) f35 (show (2 : Int32) = nI 2 from rfl) (by omega) (by decide) 41 rfl dX2_turned_40 ?_
  refine g_iast (j := 2) f37 (show (2 : Int32) = nI 2 from rfl) (by omega) (by decide) 42 rfl dX2_turned_41 ?_
  show G z cX2_turned RX2 1 rX2_turned D b ((up σ32 q12 (oI D 6 (upd (upd (upd ((fun _ => (0 : Int32))) 0 (((32 : Int32)) - (g 1))) 1 (f 0)) 2 (f 2))))) 2 9 42 [some (.ref q)] [.ref q12, .int n, .ref q1, .ref q1]
  generalize hσ39 : (up σ32 q12 (oI D 6 (upd (upd (upd ((fun _ => (0 : Int32))) 0 (((32 : Int32)) - (g 1))) 1 (f 0)) 2 (f 2)))) = σ39
  have f40 : σ39 q = some (.inr (2, [.int n, .ref lo, .ref hi])) := by rw [← hσ39]; exact (up_n ne14).trans f33
  have f41 : σ39 q1 = some (.inr (2, [.int ((0 : Int32)), .null, .null])) := by rw [← hσ39]; exact (up_n ne15).trans f34
  have f42 : σ39 lo = some (oI D 3 f) := by rw [← hσ39]; exact (up_n ne16).trans f35
  have f43 : σ39 hi = some (oI D 3 g) := by rw [← hσ39]; exact (up_n ne17).trans f36
  have f44 : σ39 q12 = some (oI D 6 (upd (upd (upd ((fun _ => (0 : Int32))) 0 (((32 : Int32)) - (g 1))) 1 (f 0)) 2 (f 2))) := by rw [← hσ39]; exact up_s _ _ _
  have hE45 : Ext [] σ σ39 := by rw [← hσ39]; exact Ext.upn hE38 fr18 _
  refine g_dup rfl 43 rfl dX2_turned_42 ?_
  refine g_iconst (v := 3) (by decide) 44 rfl dX2_turned_43 ?_
  refine g_bipush (v := 32) (by decide) 46 rfl dX2_turned_44 ?_
  refine g_aload_n rfl ld_0 47 rfl dX2_turned_46 ?_
  refine g_getf (kf := 1) f40 rfl rfl in_X2 (by decide) q256 rfl 50 rfl dX2_turned_47 ?_
  refine g_iconst (v := 1) (by decide) 51 rfl dX2_turned_50 ?_
  refine g_iald (j := 1) (f := f) f42 (show (1 : Int32) = nI 1 from rfl) (by omega) (by decide) 52 rfl dX2_turned_51 ?_
  refine g_isub 53 rfl dX2_turned_52 ?_
  refine g_iast (j := 3) f44 (show (3 : Int32) = nI 3 from rfl) (by omega) (by decide) 54 rfl dX2_turned_53 ?_
  show G z cX2_turned RX2 1 rX2_turned D b ((up σ39 q12 (oI D 6 (upd (upd (upd (upd ((fun _ => (0 : Int32))) 0 (((32 : Int32)) - (g 1))) 1 (f 0)) 2 (f 2)) 3 (((32 : Int32)) - (f 1)))))) 2 9 54 [some (.ref q)] [.ref q12, .int n, .ref q1, .ref q1]
  generalize hσ46 : (up σ39 q12 (oI D 6 (upd (upd (upd (upd ((fun _ => (0 : Int32))) 0 (((32 : Int32)) - (g 1))) 1 (f 0)) 2 (f 2)) 3 (((32 : Int32)) - (f 1))))) = σ46
  have f47 : σ46 q = some (.inr (2, [.int n, .ref lo, .ref hi])) := by rw [← hσ46]; exact (up_n ne14).trans f40
  have f48 : σ46 q1 = some (.inr (2, [.int ((0 : Int32)), .null, .null])) := by rw [← hσ46]; exact (up_n ne15).trans f41
  have f49 : σ46 lo = some (oI D 3 f) := by rw [← hσ46]; exact (up_n ne16).trans f42
  have f50 : σ46 hi = some (oI D 3 g) := by rw [← hσ46]; exact (up_n ne17).trans f43
  have f51 : σ46 q12 = some (oI D 6 (upd (upd (upd (upd ((fun _ => (0 : Int32))) 0 (((32 : Int32)) - (g 1))) 1 (f 0)) 2 (f 2)) 3 (((32 : Int32)) - (f 1)))) := by rw [← hσ46]; exact up_s _ _ _
  have hE52 : Ext [] σ σ46 := by rw [← hσ46]; exact Ext.upn hE45 fr18 _
  refine g_dup rfl 55 rfl dX2_turned_54 ?_
  refine g_iconst (v := 4) (by decide) 56 rfl dX2_turned_55 ?_
  refine g_aload_n rfl ld_0 57 rfl dX2_turned_56 ?_
  refine g_getf (kf := 2) f47 rfl rfl in_X2 (by decide) q258 rfl 60 rfl dX2_turned_57 ?_
  refine g_iconst (v := 0) (by decide) 61 rfl dX2_turned_60 ?_
  refine g_iald (j := 0) (f := g) f50 (show (0 : Int32) = nI 0 from rfl) (by omega) (by decide) 62 rfl dX2_turned_61 ?_
  refine g_iast (j := 4) f51 (show (4 : Int32) = nI 4 from rfl) (by omega) (by decide) 63 rfl dX2_turned_62 ?_
  show G z cX2_turned RX2 1 rX2_turned D b ((up σ46 q12 (oI D 6 (upd (upd (upd (upd (upd ((fun _ => (0 : Int32))) 0 (((32 : Int32)) - (g 1))) 1 (f 0)) 2 (f 2)) 3 (((32 : Int32)) - (f 1))) 4 (g 0))))) 2 9 63 [some (.ref q)] [.ref q12, .int n, .ref q1, .ref q1]
  generalize hσ53 : (up σ46 q12 (oI D 6 (upd (upd (upd (upd (upd ((fun _ => (0 : Int32))) 0 (((32 : Int32)) - (g 1))) 1 (f 0)) 2 (f 2)) 3 (((32 : Int32)) - (f 1))) 4 (g 0)))) = σ53
  have f54 : σ53 q = some (.inr (2, [.int n, .ref lo, .ref hi])) := by rw [← hσ53]; exact (up_n ne14).trans f47
  have f55 : σ53 q1 = some (.inr (2, [.int ((0 : Int32)), .null, .null])) := by rw [← hσ53]; exact (up_n ne15).trans f48
  have f56 : σ53 lo = some (oI D 3 f) := by rw [← hσ53]; exact (up_n ne16).trans f49
  have f57 : σ53 hi = some (oI D 3 g) := by rw [← hσ53]; exact (up_n ne17).trans f50
  have f58 : σ53 q12 = some (oI D 6 (upd (upd (upd (upd (upd ((fun _ => (0 : Int32))) 0 (((32 : Int32)) - (g 1))) 1 (f 0)) 2 (f 2)) 3 (((32 : Int32)) - (f 1))) 4 (g 0))) := by rw [← hσ53]; exact up_s _ _ _
  have hE59 : Ext [] σ σ53 := by rw [← hσ53]; exact Ext.upn hE52 fr18 _
  refine g_dup rfl 64 rfl dX2_turned_63 ?_
  refine g_iconst (v := 5) (by decide) 65 rfl dX2_turned_64 ?_
  refine g_aload_n rfl ld_0 66 rfl dX2_turned_65 ?_
  refine g_getf (kf := 2) f54 rfl rfl in_X2 (by decide) q258 rfl 69 rfl dX2_turned_66 ?_
  refine g_iconst (v := 2) (by decide) 70 rfl dX2_turned_69 ?_
  refine g_iald (j := 2) (f := g) f57 (show (2 : Int32) = nI 2 from rfl) (by omega) (by decide) 71 rfl dX2_turned_70 ?_
  refine g_iast (j := 5) f58 (show (5 : Int32) = nI 5 from rfl) (by omega) (by decide) 72 rfl dX2_turned_71 ?_
  show G z cX2_turned RX2 1 rX2_turned D b ((up σ53 q12 (oI D 6 (upd (upd (upd (upd (upd (upd ((fun _ => (0 : Int32))) 0 (((32 : Int32)) - (g 1))) 1 (f 0)) 2 (f 2)) 3 (((32 : Int32)) - (f 1))) 4 (g 0)) 5 (g 2))))) 2 9 72 [some (.ref q)] [.ref q12, .int n, .ref q1, .ref q1]
  generalize hσ60 : (up σ53 q12 (oI D 6 (upd (upd (upd (upd (upd (upd ((fun _ => (0 : Int32))) 0 (((32 : Int32)) - (g 1))) 1 (f 0)) 2 (f 2)) 3 (((32 : Int32)) - (f 1))) 4 (g 0)) 5 (g 2)))) = σ60
  have f61 : σ60 q = some (.inr (2, [.int n, .ref lo, .ref hi])) := by rw [← hσ60]; exact (up_n ne14).trans f54
  have f62 : σ60 q1 = some (.inr (2, [.int ((0 : Int32)), .null, .null])) := by rw [← hσ60]; exact (up_n ne15).trans f55
  have f63 : σ60 lo = some (oI D 3 f) := by rw [← hσ60]; exact (up_n ne16).trans f56
  have f64 : σ60 hi = some (oI D 3 g) := by rw [← hσ60]; exact (up_n ne17).trans f57
  have f65 : σ60 q12 = some (oI D 6 (upd (upd (upd (upd (upd (upd ((fun _ => (0 : Int32))) 0 (((32 : Int32)) - (g 1))) 1 (f 0)) 2 (f 2)) 3 (((32 : Int32)) - (f 1))) 4 (g 0)) 5 (g 2))) := by rw [← hσ60]; exact up_s _ _ _
  have hE66 : Ext [] σ σ60 := by rw [← hσ60]; exact Ext.upn hE59 fr18 _
  refine g_callI (As := [.int n, .ref q12]) (rest := [.ref q1]) (c_X2_init (c0 := (32 - g 1)) (c1 := (f 0)) (c2 := (f 2)) (c3 := (32 - f 1)) (c4 := (g 0)) (c5 := (g 2)) z.l D b f62 n f65 (by simp [upd]) (by simp [upd]) (by simp [upd]) (by simp [upd]) (by simp [upd]) (by simp [upd])) k_X2_init q342 rfl rfl (Nat.le_of_ble_eq_true rfl) ⟨Nat.le_of_ble_eq_true rfl, Nat.le_of_ble_eq_true rfl⟩ 4 15 (Nat.le_of_ble_eq_true rfl) (Nat.le_of_ble_eq_true rfl) (Nat.le_of_ble_eq_true rfl) (Nat.le_of_ble_eq_true rfl) 75 rfl dX2_turned_72 (fun v σ70 hq => ?_)
  obtain ⟨rfl, hx71, lo67, hi68, hb69⟩ := hq
  have f72 : σ70 q = some (.inr (2, [.int n, .ref lo, .ref hi])) := hx71.fact (not_in1 ne3) f61
  have f73 : σ70 lo = some (oI D 3 f) := hx71.fact (not_in1 ne4) f63
  have f74 : σ70 hi = some (oI D 3 g) := hx71.fact (not_in1 ne5) f64
  have f75 : σ70 q12 = some (oI D 6 (upd (upd (upd (upd (upd (upd ((fun _ => (0 : Int32))) 0 (((32 : Int32)) - (g 1))) 1 (f 0)) 2 (f 2)) 3 (((32 : Int32)) - (f 1))) 4 (g 0)) 5 (g 2))) := hx71.fact (not_in1 (Ne.symm ne15)) f65
  have hE76 : Ext [] σ σ70 := Ext.call hE66 hx71 (fun a ha => by rw [List.mem_singleton] at ha; subst ha; exact Or.inr fr6)
  exact g_aret hR (Or.inl ⟨_, rfl⟩) (Or.inr ⟨_, rfl⟩) (Nat.le_of_ble_eq_true rfl) (Nat.le_of_ble_eq_true rfl) ⟨_, rfl, hE76, _, _, hb69⟩ dX2_turned_75
def rX2_movedAlong : Room := { frames := 3, cells := 4, slots := 15, locals := 57 }
theorem k_X2_movedAlong : CV yX2_movedAlong cX2_movedAlong 3 (some (.object "DepthSorter$Box")) 2 := ⟨q378, q379, q82, q380, by decide +kernel, by decide +kernel, by decide +kernel⟩
set_option maxHeartbeats 1000000 in
theorem c_X2_movedAlong (l : Launch) (D : DD) (b : Nat) {σ : Hp} {q lo hi : Nat} {n : Int32} {f g : Nat → Int32} (hB : BxA D σ q lo hi n f g) (ax by0 : Int32) : CM l yX2_movedAlong cX2_movedAlong 3 (some (.object "DepthSorter$Box")) rX2_movedAlong D b [.ref q, .int ax, .int by0] σ (PR (fun r σ' => Ext [] σ σ' ∧ ∃ lo hi, BxA D σ' r lo hi n (t3 (f 0 + (if ax = 0 then by0 else 0)) (f 1 + (if ax = 1 then by0 else 0)) (f 2 + (if ax = 2 then by0 else 0))) (t3 (g 0 + (if ax = 0 then by0 else 0)) (g 1 + (if ax = 1 then by0 else 0)) (g 2 + (if ax = 2 then by0 else 0))))) := by
  refine CM_of [some (.ref q), some (.int ax), some (.int by0)] RX2 (by decide) rfl (cat_all rfl) (Nat.le_of_ble_eq_true rfl) rfl ?_
  intro z hz hR hnm
  refine g_aload_n rfl ld_0 1 rfl dX2_movedAlong_0 ?_
  have j10 : ∀ d0 : Int32, d0 = (if ax = 0 then by0 else 0) → G z cX2_movedAlong RX2 3 rX2_movedAlong D b σ 0 0 10 [some (.ref q), some (.int ax), some (.int by0)] [.int d0, .ref q] := by
    intro d0 hd0
    subst hd0
    have j20 : ∀ d1 : Int32, d1 = (if ax = 1 then by0 else 0) → G z cX2_movedAlong RX2 3 rX2_movedAlong D b σ 0 0 20 [some (.ref q), some (.int ax), some (.int by0)] [.int d1, .int ((if ax = 0 then by0 else 0)), .ref q] := by
      intro d1 hd1
      subst hd1
      have j30 : ∀ d2 : Int32, d2 = (if ax = 2 then by0 else 0) → G z cX2_movedAlong RX2 3 rX2_movedAlong D b σ 0 0 30 [some (.ref q), some (.int ax), some (.int by0)] [.int d2, .int ((if ax = 1 then by0 else 0)), .int ((if ax = 0 then by0 else 0)), .ref q] := by
        intro d2 hd2
        subst hd2
        refine g_callV (As := [.int ((if ax = 0 then by0 else 0)), .int ((if ax = 1 then by0 else 0)), .int ((if ax = 2 then by0 else 0))]) (rest := []) (ci := 2) (c_X2_moved z.l D b hB ((if ax = 0 then by0 else 0)) ((if ax = 1 then by0 else 0)) ((if ax = 2 then by0 else 0))) k_X2_moved q381 hB.1 rfl rfl rfl rfl (Nat.le_of_ble_eq_true rfl) ⟨Nat.le_of_ble_eq_true rfl, Nat.le_of_ble_eq_true rfl⟩ 4 15 (Nat.le_of_ble_eq_true rfl) (Nat.le_of_ble_eq_true rfl) (Nat.le_of_ble_eq_true rfl) (Nat.le_of_ble_eq_true rfl) 33 rfl dX2_movedAlong_30 (fun v σ5 hq => ?_)
        obtain ⟨r4, rfl, hx6, lo1, hi2, hb3⟩ := hq
        have f7 : σ5 q = some (.inr (2, [.int n, .ref lo, .ref hi])) := hx6.fact not_in0 hB.1
        have f8 : σ5 lo = some (oI D 3 f) := hx6.fact not_in0 hB.2.1
        have f9 : σ5 hi = some (oI D 3 g) := hx6.fact not_in0 hB.2.2
        have hE10 : Ext [] σ σ5 := Ext.call (Ext.refl _ _) hx6 (fun a ha => by simp at ha)
        exact g_aret hR (Or.inl ⟨_, rfl⟩) (Or.inr ⟨_, rfl⟩) (Nat.le_of_ble_eq_true rfl) (Nat.le_of_ble_eq_true rfl) ⟨_, rfl, hE10, _, _, hb3⟩ dX2_movedAlong_33
      refine g_iload_n rfl ld_1 21 rfl dX2_movedAlong_20 ?_
      refine g_iconst (v := 2) (by decide) 22 rfl dX2_movedAlong_21 ?_
      refine g_icmp_ne 29 25 rfl (by decide) dX2_movedAlong_22 (fun c22 => ?_) (fun c22 => ?_)
      · refine g_iconst (v := 0) (by decide) 30 rfl dX2_movedAlong_29 ?_
        exact j30 ((0 : Int32)) (by first | rw [if_pos c22] | rw [if_neg c22])
      · refine g_iload_n rfl ld_2 26 rfl dX2_movedAlong_25 ?_
        refine g_goto 30 (by decide) dX2_movedAlong_26 ?_
        exact j30 by0 (by first | rw [if_pos c22] | rw [if_neg c22])
    refine g_iload_n rfl ld_1 11 rfl dX2_movedAlong_10 ?_
    refine g_iconst (v := 1) (by decide) 12 rfl dX2_movedAlong_11 ?_
    refine g_icmp_ne 19 15 rfl (by decide) dX2_movedAlong_12 (fun c12 => ?_) (fun c12 => ?_)
    · refine g_iconst (v := 0) (by decide) 20 rfl dX2_movedAlong_19 ?_
      exact j20 ((0 : Int32)) (by first | rw [if_pos c12] | rw [if_neg c12])
    · refine g_iload_n rfl ld_2 16 rfl dX2_movedAlong_15 ?_
      refine g_goto 20 (by decide) dX2_movedAlong_16 ?_
      exact j20 by0 (by first | rw [if_pos c12] | rw [if_neg c12])
  refine g_iload_n rfl ld_1 2 rfl dX2_movedAlong_1 ?_
  refine g_if_ne 9 5 rfl (by decide) dX2_movedAlong_2 (fun c2 => ?_) (fun c2 => ?_)
  · refine g_iconst (v := 0) (by decide) 10 rfl dX2_movedAlong_9 ?_
    exact j10 ((0 : Int32)) (by first | rw [if_pos c2] | rw [if_neg c2])
  · refine g_iload_n rfl ld_2 6 rfl dX2_movedAlong_5 ?_
    refine g_goto 10 (by decide) dX2_movedAlong_6 ?_
    exact j10 by0 (by first | rw [if_pos c2] | rw [if_neg c2])
def rX2_lowerPart : Room := { frames := 2, cells := 2, slots := 6, locals := 35 }
theorem k_X2_lowerPart : CV yX2_lowerPart cX2_lowerPart 4 (some (.object "DepthSorter$Box")) 2 := ⟨q399, q400, q82, q401, by decide +kernel, by decide +kernel, by decide +kernel⟩
set_option maxHeartbeats 1000000 in
theorem c_X2_lowerPart (l : Launch) (D : DD) (b : Nat) {σ : Hp} {q lo hi : Nat} {n : Int32} {f g : Nat → Int32} (hB : BxA D σ q lo hi n f g) (x : Nat) (a : Int32) (hx : x < 3) : CM l yX2_lowerPart cX2_lowerPart 4 (some (.object "DepthSorter$Box")) rX2_lowerPart D b [.ref q, .int (nI x), .int a] σ (PR (fun r σ' => Ext [] σ σ' ∧ ∃ lo hi, BxA D σ' r lo hi n (f) (upd g x a))) := by
  refine CM_of [some (.ref q), some (.int (nI x)), some (.int a), none] RX2 (by decide) rfl (cat_all rfl) (Nat.le_of_ble_eq_true rfl) rfl ?_
  intro z hz hR hnm
  refine g_aload_n rfl ld_0 1 rfl dX2_lowerPart_0 ?_
  refine g_getf (kf := 2) hB.1 rfl rfl in_X2 (by decide) q258 rfl 4 rfl dX2_lowerPart_1 ?_
  refine g_cloneI 1 3 hB.2.2 q402 (Nat.le_of_ble_eq_true rfl) (Nat.le_of_ble_eq_true rfl) rfl rfl (Nat.le_of_ble_eq_true rfl) (Nat.le_of_ble_eq_true rfl) 7 rfl dX2_lowerPart_4 (fun q1 hq1 hq1b => ?_)
  have ne3 : q ≠ q1 := ne_fresh hq1 hB.1
  have ne4 : lo ≠ q1 := ne_fresh hq1 hB.2.1
  have ne5 : hi ≠ q1 := ne_fresh hq1 hB.2.2
  have fr6 : σ q1 = none := Ext.nn (Ext.refl _ _) hq1 not_in0
  show G z cX2_lowerPart RX2 4 rX2_lowerPart D b ((up σ q1 (oI D 3 g))) 1 3 7 [some (.ref q), some (.int (nI x)), some (.int a), none] [.ref q1]
  generalize hσ2 : (up σ q1 (oI D 3 g)) = σ2
  have f7 : σ2 q = some (.inr (2, [.int n, .ref lo, .ref hi])) := by rw [← hσ2]; exact (up_n ne3).trans hB.1
  have f8 : σ2 lo = some (oI D 3 f) := by rw [← hσ2]; exact (up_n ne4).trans hB.2.1
  have f9 : σ2 hi = some (oI D 3 g) := by rw [← hσ2]; exact (up_n ne5).trans hB.2.2
  have f10 : σ2 q1 = some (oI D 3 g) := by rw [← hσ2]; exact up_s _ _ _
  have hE11 : Ext [] σ σ2 := by rw [← hσ2]; exact Ext.upn (Ext.refl _ _) fr6 _
  refine g_castI f10 q406 10 rfl dX2_lowerPart_7 ?_
  refine g_astore_n rfl sa_3 11 rfl dX2_lowerPart_10 ?_
  refine g_aload_n rfl ld_3 12 rfl dX2_lowerPart_11 ?_
  refine g_iload_n rfl ld_1 13 rfl dX2_lowerPart_12 ?_
  refine g_iload_n rfl ld_2 14 rfl dX2_lowerPart_13 ?_
  refine g_iast (j := x) f10 rfl (by omega) (by decide) 15 rfl dX2_lowerPart_14 ?_
  show G z cX2_lowerPart RX2 4 rX2_lowerPart D b ((up σ2 q1 (oI D 3 (upd g x a)))) 1 3 15 [some (.ref q), some (.int (nI x)), some (.int a), some (.ref q1)] []
  generalize hσ12 : (up σ2 q1 (oI D 3 (upd g x a))) = σ12
  have f13 : σ12 q = some (.inr (2, [.int n, .ref lo, .ref hi])) := by rw [← hσ12]; exact (up_n ne3).trans f7
  have f14 : σ12 lo = some (oI D 3 f) := by rw [← hσ12]; exact (up_n ne4).trans f8
  have f15 : σ12 hi = some (oI D 3 g) := by rw [← hσ12]; exact (up_n ne5).trans f9
  have f16 : σ12 q1 = some (oI D 3 (upd g x a)) := by rw [← hσ12]; exact up_s _ _ _
  have hE17 : Ext [] σ σ12 := by rw [← hσ12]; exact Ext.upn hE11 fr6 _
  refine g_new (C := "DepthSorter$Box") (T := TX2) (N := 3) (ci := 2) (fs := [.int ((0 : Int32)), .null, .null]) 2 6 rfl in_X2 tyX2 tyX2_ok (by decide) q341 q249 q82 rfl rfl (Nat.le_of_ble_eq_true rfl) (Nat.le_of_ble_eq_true rfl) 18 rfl dX2_lowerPart_15 (fun q18 hq18 hq18b => ?_)
  have ne20 : q ≠ q18 := ne_fresh hq18 f13
  have ne21 : lo ≠ q18 := ne_fresh hq18 f14
  have ne22 : hi ≠ q18 := ne_fresh hq18 f15
  have ne23 : q1 ≠ q18 := ne_fresh hq18 f16
  have fr24 : σ q18 = none := Ext.nn hE17 hq18 not_in0
  show G z cX2_lowerPart RX2 4 rX2_lowerPart D b ((up σ12 q18 (.inr (2, [.int ((0 : Int32)), .null, .null])))) 2 6 18 [some (.ref q), some (.int (nI x)), some (.int a), some (.ref q1)] [.ref q18]
  generalize hσ19 : (up σ12 q18 (.inr (2, [.int ((0 : Int32)), .null, .null]))) = σ19
  have f25 : σ19 q = some (.inr (2, [.int n, .ref lo, .ref hi])) := by rw [← hσ19]; exact (up_n ne20).trans f13
  have f26 : σ19 q18 = some (.inr (2, [.int ((0 : Int32)), .null, .null])) := by rw [← hσ19]; exact up_s _ _ _
  have f27 : σ19 lo = some (oI D 3 f) := by rw [← hσ19]; exact (up_n ne21).trans f14
  have f28 : σ19 hi = some (oI D 3 g) := by rw [← hσ19]; exact (up_n ne22).trans f15
  have f29 : σ19 q1 = some (oI D 3 (upd g x a)) := by rw [← hσ19]; exact (up_n ne23).trans f16
  have hE30 : Ext [] σ σ19 := by rw [← hσ19]; exact Ext.upn hE17 fr24 _
  refine g_dup rfl 19 rfl dX2_lowerPart_18 ?_
  refine g_aload_n rfl ld_0 20 rfl dX2_lowerPart_19 ?_
  refine g_getf (kf := 0) f25 rfl rfl in_X2 (by decide) q254 rfl 23 rfl dX2_lowerPart_20 ?_
  refine g_aload_n rfl ld_0 24 rfl dX2_lowerPart_23 ?_
  refine g_getf (kf := 1) f25 rfl rfl in_X2 (by decide) q256 rfl 27 rfl dX2_lowerPart_24 ?_
  refine g_aload_n rfl ld_3 28 rfl dX2_lowerPart_27 ?_
  refine g_callI (As := [.int n, .ref lo, .ref q1]) (rest := [.ref q18]) (c_X2_init_2 z.l D b f26 n lo q1) k_X2_init_2 q407 rfl rfl (Nat.le_of_ble_eq_true rfl) ⟨Nat.le_of_ble_eq_true rfl, Nat.le_of_ble_eq_true rfl⟩ 2 6 (Nat.le_of_ble_eq_true rfl) (Nat.le_of_ble_eq_true rfl) (Nat.le_of_ble_eq_true rfl) (Nat.le_of_ble_eq_true rfl) 31 rfl dX2_lowerPart_28 (fun v σ32 hq => ?_)
  obtain ⟨rfl, hx33, hb31⟩ := hq
  have f34 : σ32 q = some (.inr (2, [.int n, .ref lo, .ref hi])) := hx33.fact (not_in1 ne20) f25
  have f35 : σ32 lo = some (oI D 3 f) := hx33.fact (not_in1 ne21) f27
  have f36 : σ32 hi = some (oI D 3 g) := hx33.fact (not_in1 ne22) f28
  have f37 : σ32 q1 = some (oI D 3 (upd g x a)) := hx33.fact (not_in1 ne23) f29
  have hE38 : Ext [] σ σ32 := Ext.call hE30 hx33 (fun a ha => by rw [List.mem_singleton] at ha; subst ha; exact Or.inr fr24)
  exact g_aret hR (Or.inl ⟨_, rfl⟩) (Or.inr ⟨_, rfl⟩) (Nat.le_of_ble_eq_true rfl) (Nat.le_of_ble_eq_true rfl) ⟨_, rfl, hE38, _, _, hb31, f35, f37⟩ dX2_lowerPart_31
def rX2_upperPart : Room := { frames := 2, cells := 2, slots := 6, locals := 35 }
theorem k_X2_upperPart : CV yX2_upperPart cX2_upperPart 5 (some (.object "DepthSorter$Box")) 3 := ⟨q411, q412, q82, q413, by decide +kernel, by decide +kernel, by decide +kernel⟩
set_option maxHeartbeats 1000000 in
theorem c_X2_upperPart (l : Launch) (D : DD) (b : Nat) {σ : Hp} {q lo hi : Nat} {n : Int32} {f g : Nat → Int32} (hB : BxA D σ q lo hi n f g) (m : Int32) (x : Nat) (a : Int32) (hx : x < 3) : CM l yX2_upperPart cX2_upperPart 5 (some (.object "DepthSorter$Box")) rX2_upperPart D b [.ref q, .int m, .int (nI x), .int a] σ (PR (fun r σ' => Ext [] σ σ' ∧ ∃ lo hi, BxA D σ' r lo hi m (upd f x a) (g))) := by
  refine CM_of [some (.ref q), some (.int m), some (.int (nI x)), some (.int a), none] RX2 (by decide) rfl (cat_all rfl) (Nat.le_of_ble_eq_true rfl) rfl ?_
  intro z hz hR hnm
  refine g_aload_n rfl ld_0 1 rfl dX2_upperPart_0 ?_
  refine g_getf (kf := 1) hB.1 rfl rfl in_X2 (by decide) q256 rfl 4 rfl dX2_upperPart_1 ?_
  refine g_cloneI 1 3 hB.2.1 q402 (Nat.le_of_ble_eq_true rfl) (Nat.le_of_ble_eq_true rfl) rfl rfl (Nat.le_of_ble_eq_true rfl) (Nat.le_of_ble_eq_true rfl) 7 rfl dX2_upperPart_4 (fun q1 hq1 hq1b => ?_)
  have ne3 : q ≠ q1 := ne_fresh hq1 hB.1
  have ne4 : lo ≠ q1 := ne_fresh hq1 hB.2.1
  have ne5 : hi ≠ q1 := ne_fresh hq1 hB.2.2
  have fr6 : σ q1 = none := Ext.nn (Ext.refl _ _) hq1 not_in0
  show G z cX2_upperPart RX2 5 rX2_upperPart D b ((up σ q1 (oI D 3 f))) 1 3 7 [some (.ref q), some (.int m), some (.int (nI x)), some (.int a), none] [.ref q1]
  generalize hσ2 : (up σ q1 (oI D 3 f)) = σ2
  have f7 : σ2 q = some (.inr (2, [.int n, .ref lo, .ref hi])) := by rw [← hσ2]; exact (up_n ne3).trans hB.1
  have f8 : σ2 lo = some (oI D 3 f) := by rw [← hσ2]; exact (up_n ne4).trans hB.2.1
  have f9 : σ2 hi = some (oI D 3 g) := by rw [← hσ2]; exact (up_n ne5).trans hB.2.2
  have f10 : σ2 q1 = some (oI D 3 f) := by rw [← hσ2]; exact up_s _ _ _
  have hE11 : Ext [] σ σ2 := by rw [← hσ2]; exact Ext.upn (Ext.refl _ _) fr6 _
  refine g_castI f10 q406 10 rfl dX2_upperPart_7 ?_
  refine g_astore sa_4 12 rfl dX2_upperPart_10 ?_
  refine g_aload ld_4 14 rfl dX2_upperPart_12 ?_
  refine g_iload_n rfl ld_2 15 rfl dX2_upperPart_14 ?_
  refine g_iload_n rfl ld_3 16 rfl dX2_upperPart_15 ?_
  refine g_iast (j := x) f10 rfl (by omega) (by decide) 17 rfl dX2_upperPart_16 ?_
  show G z cX2_upperPart RX2 5 rX2_upperPart D b ((up σ2 q1 (oI D 3 (upd f x a)))) 1 3 17 [some (.ref q), some (.int m), some (.int (nI x)), some (.int a), some (.ref q1)] []
  generalize hσ12 : (up σ2 q1 (oI D 3 (upd f x a))) = σ12
  have f13 : σ12 q = some (.inr (2, [.int n, .ref lo, .ref hi])) := by rw [← hσ12]; exact (up_n ne3).trans f7
  have f14 : σ12 lo = some (oI D 3 f) := by rw [← hσ12]; exact (up_n ne4).trans f8
  have f15 : σ12 hi = some (oI D 3 g) := by rw [← hσ12]; exact (up_n ne5).trans f9
  have f16 : σ12 q1 = some (oI D 3 (upd f x a)) := by rw [← hσ12]; exact up_s _ _ _
  have hE17 : Ext [] σ σ12 := by rw [← hσ12]; exact Ext.upn hE11 fr6 _
  refine g_new (C := "DepthSorter$Box") (T := TX2) (N := 3) (ci := 2) (fs := [.int ((0 : Int32)), .null, .null]) 2 6 rfl in_X2 tyX2 tyX2_ok (by decide) q341 q249 q82 rfl rfl (Nat.le_of_ble_eq_true rfl) (Nat.le_of_ble_eq_true rfl) 20 rfl dX2_upperPart_17 (fun q18 hq18 hq18b => ?_)
  have ne20 : q ≠ q18 := ne_fresh hq18 f13
  have ne21 : lo ≠ q18 := ne_fresh hq18 f14
  have ne22 : hi ≠ q18 := ne_fresh hq18 f15
  have ne23 : q1 ≠ q18 := ne_fresh hq18 f16
  have fr24 : σ q18 = none := Ext.nn hE17 hq18 not_in0
  show G z cX2_upperPart RX2 5 rX2_upperPart D b ((up σ12 q18 (.inr (2, [.int ((0 : Int32)), .null, .null])))) 2 6 20 [some (.ref q), some (.int m), some (.int (nI x)), some (.int a), some (.ref q1)] [.ref q18]
  generalize hσ19 : (up σ12 q18 (.inr (2, [.int ((0 : Int32)), .null, .null]))) = σ19
  have f25 : σ19 q = some (.inr (2, [.int n, .ref lo, .ref hi])) := by rw [← hσ19]; exact (up_n ne20).trans f13
  have f26 : σ19 q18 = some (.inr (2, [.int ((0 : Int32)), .null, .null])) := by rw [← hσ19]; exact up_s _ _ _
  have f27 : σ19 lo = some (oI D 3 f) := by rw [← hσ19]; exact (up_n ne21).trans f14
  have f28 : σ19 hi = some (oI D 3 g) := by rw [← hσ19]; exact (up_n ne22).trans f15
  have f29 : σ19 q1 = some (oI D 3 (upd f x a)) := by rw [← hσ19]; exact (up_n ne23).trans f16
  have hE30 : Ext [] σ σ19 := by rw [← hσ19]; exact Ext.upn hE17 fr24 _
  refine g_dup rfl 21 rfl dX2_upperPart_20 ?_
  refine g_iload_n rfl ld_1 22 rfl dX2_upperPart_21 ?_
  refine g_aload ld_4 24 rfl dX2_upperPart_22 ?_
  refine g_aload_n rfl ld_0 25 rfl dX2_upperPart_24 ?_
  refine g_getf (kf := 2) f25 rfl rfl in_X2 (by decide) q258 rfl 28 rfl dX2_upperPart_25 ?_
  refine g_callI (As := [.int m, .ref q1, .ref hi]) (rest := [.ref q18]) (c_X2_init_2 z.l D b f26 m q1 hi) k_X2_init_2 q407 rfl rfl (Nat.le_of_ble_eq_true rfl) ⟨Nat.le_of_ble_eq_true rfl, Nat.le_of_ble_eq_true rfl⟩ 2 6 (Nat.le_of_ble_eq_true rfl) (Nat.le_of_ble_eq_true rfl) (Nat.le_of_ble_eq_true rfl) (Nat.le_of_ble_eq_true rfl) 31 rfl dX2_upperPart_28 (fun v σ32 hq => ?_)
  obtain ⟨rfl, hx33, hb31⟩ := hq
  have f34 : σ32 q = some (.inr (2, [.int n, .ref lo, .ref hi])) := hx33.fact (not_in1 ne20) f25
  have f35 : σ32 lo = some (oI D 3 f) := hx33.fact (not_in1 ne21) f27
  have f36 : σ32 hi = some (oI D 3 g) := hx33.fact (not_in1 ne22) f28
  have f37 : σ32 q1 = some (oI D 3 (upd f x a)) := hx33.fact (not_in1 ne23) f29
  have hE38 : Ext [] σ σ32 := Ext.call hE30 hx33 (fun a ha => by rw [List.mem_singleton] at ha; subst ha; exact Or.inr fr24)
  exact g_aret hR (Or.inl ⟨_, rfl⟩) (Or.inr ⟨_, rfl⟩) (Nat.le_of_ble_eq_true rfl) (Nat.le_of_ble_eq_true rfl) ⟨_, rfl, hE38, _, _, hb31, f37, f36⟩ dX2_upperPart_31
