/-! THE REFERENCE's WORLD: one object, 15 arrays; F: its int fields, A: its arrays' contents, by the place of the field -/
def mfs (ad : Nat → Nat) (F : Nat → Int32) : List Value := [.ref (ad 0), .ref (ad 1), .int (F 2), .ref (ad 3), .int (F 4), .ref (ad 5), .int (F 6), .ref (ad 7), .ref (ad 8), .ref (ad 9), .ref (ad 10), .int (F 11), .ref (ad 12), .int (F 13), .ref (ad 14), .ref (ad 15), .int (F 16), .int (F 17), .int (F 18), .int (F 19), .int (F 20), .ref (ad 21), .ref (ad 22), .ref (ad 23), .int (F 24), .int (F 25), .ref (ad 26), .int (F 27)]
def maL : List Nat := [0, 1, 3, 5, 7, 8, 9, 10, 12, 14, 15, 21, 22, 23, 26]
def miL : List Nat := [2, 4, 6, 11, 13, 16, 17, 18, 19, 20, 24, 25, 27]
def msz : Nat → Nat := fun k => match k with
  | 0 => 84
  | 1 => 672
  | 3 => 168
  | 5 => 240
  | 7 => 6
  | 8 => 12
  | 9 => 12
  | 10 => 280
  | 12 => 40
  | 14 => 40
  | 15 => 40
  | 21 => 12
  | 22 => 12
  | 23 => 3
  | 26 => 84
  | _ => 0
def mar (D : DD) (k : Nat) (f : Nat → Int32) : va_E := if k = 14 then oZ D 40 f else oI D (msz k) f
def Madr (h : Nat) (ad : Nat → Nat) (a : Nat) : Prop := a = h ∨ ∃ k ∈ maL, a = ad k
def uA (A : Nat → Nat → Int32) (k : Nat) (f : Nat → Int32) : Nat → Nat → Int32 := fun j => if j = k then f else A j
theorem uA_s (A : Nat → Nat → Int32) (k : Nat) (f : Nat → Int32) : uA A k f k = f := by simp [uA]
theorem uA_n {A : Nat → Nat → Int32} {k j : Nat} {f : Nat → Int32} (h : j ≠ k) : uA A k f j = A j := by simp [uA, h]
theorem uA_uA (A : Nat → Nat → Int32) (k : Nat) (f g : Nat → Int32) : uA (uA A k f) k g = uA A k g := by
  funext j
  by_cases h : j = k <;> simp [uA, h]
theorem uA_self (A : Nat → Nat → Int32) (k : Nat) : uA A k (A k) = A := by
  funext j
  by_cases h : j = k
  · subst h; simp [uA]
  · simp [uA, h]
theorem uA_ap (A : Nat → Nat → Int32) (k : Nat) (f : Nat → Int32) (j : Nat) : uA A k f j = if j = k then f else A j := rfl
theorem upd_ap (f : Nat → Int32) (k : Nat) (x : Int32) (j : Nat) : upd f k x j = if j = k then x else f j := rfl
theorem upd_s (f : Nat → Int32) (k : Nat) (x : Int32) : upd f k x k = x := by simp [upd]
theorem upd_n {f : Nat → Int32} {k j : Nat} {x : Int32} (h : j ≠ k) : upd f k x j = f j := by simp [upd, h]
def MW (D : DD) (h : Nat) (ad : Nat → Nat) (σ0 : Hp) (F : Nat → Int32) (A : Nat → Nat → Int32) (σ : Hp) : Prop :=
  σ h = some (.inr (1, mfs ad F)) ∧ (∀ k ∈ maL, σ (ad k) = some (mar D k (A k))) ∧ (∀ k ∈ maL, ad k ≠ h) ∧ (∀ i ∈ maL, ∀ j ∈ maL, ad i = ad j → i = j) ∧ ∀ a, ¬ Madr h ad a → σ a = σ0 a
theorem MW.obj {D : DD} {h : Nat} {ad : Nat → Nat} {σ0 : Hp} {F : Nat → Int32} {A : Nat → Nat → Int32} {σ : Hp} (H : MW D h ad σ0 F A σ) : σ h = some (.inr (1, mfs ad F)) := H.1
theorem MW.a0 {D : DD} {h : Nat} {ad : Nat → Nat} {σ0 : Hp} {F : Nat → Int32} {A : Nat → Nat → Int32} {σ : Hp} (H : MW D h ad σ0 F A σ) : σ (ad 0) = some (oI D 84 (A 0)) := H.2.1 0 (by decide)
theorem MW.a1 {D : DD} {h : Nat} {ad : Nat → Nat} {σ0 : Hp} {F : Nat → Int32} {A : Nat → Nat → Int32} {σ : Hp} (H : MW D h ad σ0 F A σ) : σ (ad 1) = some (oI D 672 (A 1)) := H.2.1 1 (by decide)
theorem MW.a3 {D : DD} {h : Nat} {ad : Nat → Nat} {σ0 : Hp} {F : Nat → Int32} {A : Nat → Nat → Int32} {σ : Hp} (H : MW D h ad σ0 F A σ) : σ (ad 3) = some (oI D 168 (A 3)) := H.2.1 3 (by decide)
theorem MW.a5 {D : DD} {h : Nat} {ad : Nat → Nat} {σ0 : Hp} {F : Nat → Int32} {A : Nat → Nat → Int32} {σ : Hp} (H : MW D h ad σ0 F A σ) : σ (ad 5) = some (oI D 240 (A 5)) := H.2.1 5 (by decide)
theorem MW.a7 {D : DD} {h : Nat} {ad : Nat → Nat} {σ0 : Hp} {F : Nat → Int32} {A : Nat → Nat → Int32} {σ : Hp} (H : MW D h ad σ0 F A σ) : σ (ad 7) = some (oI D 6 (A 7)) := H.2.1 7 (by decide)
theorem MW.a8 {D : DD} {h : Nat} {ad : Nat → Nat} {σ0 : Hp} {F : Nat → Int32} {A : Nat → Nat → Int32} {σ : Hp} (H : MW D h ad σ0 F A σ) : σ (ad 8) = some (oI D 12 (A 8)) := H.2.1 8 (by decide)
theorem MW.a9 {D : DD} {h : Nat} {ad : Nat → Nat} {σ0 : Hp} {F : Nat → Int32} {A : Nat → Nat → Int32} {σ : Hp} (H : MW D h ad σ0 F A σ) : σ (ad 9) = some (oI D 12 (A 9)) := H.2.1 9 (by decide)
theorem MW.a10 {D : DD} {h : Nat} {ad : Nat → Nat} {σ0 : Hp} {F : Nat → Int32} {A : Nat → Nat → Int32} {σ : Hp} (H : MW D h ad σ0 F A σ) : σ (ad 10) = some (oI D 280 (A 10)) := H.2.1 10 (by decide)
theorem MW.a12 {D : DD} {h : Nat} {ad : Nat → Nat} {σ0 : Hp} {F : Nat → Int32} {A : Nat → Nat → Int32} {σ : Hp} (H : MW D h ad σ0 F A σ) : σ (ad 12) = some (oI D 40 (A 12)) := H.2.1 12 (by decide)
theorem MW.a14 {D : DD} {h : Nat} {ad : Nat → Nat} {σ0 : Hp} {F : Nat → Int32} {A : Nat → Nat → Int32} {σ : Hp} (H : MW D h ad σ0 F A σ) : σ (ad 14) = some (oZ D 40 (A 14)) := H.2.1 14 (by decide)
theorem MW.a15 {D : DD} {h : Nat} {ad : Nat → Nat} {σ0 : Hp} {F : Nat → Int32} {A : Nat → Nat → Int32} {σ : Hp} (H : MW D h ad σ0 F A σ) : σ (ad 15) = some (oI D 40 (A 15)) := H.2.1 15 (by decide)
theorem MW.a21 {D : DD} {h : Nat} {ad : Nat → Nat} {σ0 : Hp} {F : Nat → Int32} {A : Nat → Nat → Int32} {σ : Hp} (H : MW D h ad σ0 F A σ) : σ (ad 21) = some (oI D 12 (A 21)) := H.2.1 21 (by decide)
theorem MW.a22 {D : DD} {h : Nat} {ad : Nat → Nat} {σ0 : Hp} {F : Nat → Int32} {A : Nat → Nat → Int32} {σ : Hp} (H : MW D h ad σ0 F A σ) : σ (ad 22) = some (oI D 12 (A 22)) := H.2.1 22 (by decide)
theorem MW.a23 {D : DD} {h : Nat} {ad : Nat → Nat} {σ0 : Hp} {F : Nat → Int32} {A : Nat → Nat → Int32} {σ : Hp} (H : MW D h ad σ0 F A σ) : σ (ad 23) = some (oI D 3 (A 23)) := H.2.1 23 (by decide)
theorem MW.a26 {D : DD} {h : Nat} {ad : Nat → Nat} {σ0 : Hp} {F : Nat → Int32} {A : Nat → Nat → Int32} {σ : Hp} (H : MW D h ad σ0 F A σ) : σ (ad 26) = some (oI D 84 (A 26)) := H.2.1 26 (by decide)
theorem MW.put {D : DD} {h : Nat} {ad : Nat → Nat} {σ0 : Hp} {F F' : Nat → Int32} {A : Nat → Nat → Int32} {σ : Hp} {l : List Value} (H : MW D h ad σ0 F A σ) (e : l = mfs ad F') : MW D h ad σ0 F' A (up σ h (.inr (1, l))) := by
  subst e
  obtain ⟨h1, h2, h3, h4, h5⟩ := H
  exact ⟨up_s _ _ _, fun k hk => by rw [up_n (h3 k hk)]; exact h2 k hk, h3, h4, fun a ha => by rw [up_n (fun e => ha (Or.inl e))]; exact h5 a ha⟩
theorem MW.ast {D : DD} {h : Nat} {ad : Nat → Nat} {σ0 : Hp} {F : Nat → Int32} {A : Nat → Nat → Int32} {σ : Hp} {k : Nat} {f : Nat → Int32} (H : MW D h ad σ0 F A σ) (hk : k ∈ maL) : MW D h ad σ0 F (uA A k f) (up σ (ad k) (mar D k f)) := by
  obtain ⟨h1, h2, h3, h4, h5⟩ := H
  refine ⟨by rw [up_n (fun e => h3 k hk e.symm)]; exact h1, fun j hj => ?_, h3, h4, fun a ha => by rw [up_n (fun e => ha (Or.inr ⟨k, hk, e⟩))]; exact h5 a ha⟩
  by_cases hjk : j = k
  · subst hjk
    rw [up_s, uA_s]
  · rw [up_n (fun e => hjk (h4 j hj k hk e)), uA_n hjk]
    exact h2 j hj
theorem MW.self {D : DD} {h : Nat} {ad : Nat → Nat} {σ0 : Hp} {F : Nat → Int32} {A : Nat → Nat → Int32} {σ : Hp} (H : MW D h ad σ0 F A σ) : MW D h ad σ F A σ := ⟨H.1, H.2.1, H.2.2.1, H.2.2.2.1, fun _ _ => rfl⟩
theorem MW.trans {D : DD} {h : Nat} {ad : Nat → Nat} {σ0 σ : Hp} {F F' : Nat → Int32} {A A' : Nat → Nat → Int32} {σ' : Hp} (H : MW D h ad σ0 F A σ) (H' : MW D h ad σ F' A' σ') : MW D h ad σ0 F' A' σ' := ⟨H'.1, H'.2.1, H'.2.2.1, H'.2.2.2.1, fun a ha => (H'.2.2.2.2 a ha).trans (H.2.2.2.2 a ha)⟩
theorem mi_ok : ∀ k ∈ miL, k < 28 ∧ (TX1 k).2.2.2 = false ∧ (TX1 k).1 = "DepthSorterModel" ∧ tyX1 k = .int := by decide +kernel
theorem mi_set {ad : Nat → Nat} {F : Nat → Int32} {k : Nat} {v : Int32} (hk : k ∈ miL) : (mfs ad F).set k (.int v) = mfs ad (upd F k v) := by
  simp only [miL, List.mem_cons, List.not_mem_nil, or_false] at hk
  rcases hk with h | h | h | h | h | h | h | h | h | h | h | h | h <;> subst h <;> rfl
theorem msz_lt : ∀ k ∈ maL, msz k < 2 ^ 31 := by decide
theorem gm_put {z : Dy} {cc : ByteArray} {nL : Nat} {R : Room} {D : DD} {b : Nat} {σ : Hp} {k n pc : Nat} {lv : List (Option Value)} {st : List Value} {h : Nat} {ad : Nat → Nat} {σ0 : Hp} {F : Nat → Int32} {A : Nat → Nat → Int32} {index : Nat} {v : Int32} (kf : Nat) (hk : kf ∈ miL) (hM : MW D h ad σ0 F A σ) (hlink : Cond.fieldLink RX1 index "DepthSorterModel" (TX1 kf).2.1 (TX1 kf).2.2.1 ∈ lw_all) (pc' : Nat) (hp : pc + 3 = pc') (d : decode cc pc = .ok (.putfield index, 3)) (kk : ∀ σ' : Hp, MW D h ad σ0 (upd F kf v) A σ' → G z cc RX1 nL R D b σ' k n pc' lv (st)) : G z cc RX1 nL R D b σ k n pc lv (.int v :: .ref h :: st) :=
  g_putf (T := TX1) (N := 28) hM.1 (mi_ok kf hk).1 rfl in_X1 tyX1 tyX1_ok nmX1 (mi_ok kf hk).1 hlink (mi_ok kf hk).2.2.1 (mi_ok kf hk).2.1 (mi_ok kf hk).2.2.2 rfl rfl pc' hp d (kk _ (hM.put (mi_set hk)))
theorem gm_ast {z : Dy} {cc : ByteArray} {nL : Nat} {R : Room} {D : DD} {b : Nat} {σ : Hp} {k n pc : Nat} {lv : List (Option Value)} {st : List Value} {h : Nat} {ad : Nat → Nat} {σ0 : Hp} {F : Nat → Int32} {A : Nat → Nat → Int32} {j : Nat} {i x : Int32} (kA : Nat) (hk : kA ∈ maL) (h14 : kA ≠ 14) (hM : MW D h ad σ0 F A σ) (hi : i = nI j) (hj : j < msz kA) (pc' : Nat) (hp : pc + 1 = pc') (d : decode cc pc = .ok (.iastore, 1)) (kk : ∀ σ' : Hp, MW D h ad σ0 F (uA A kA (upd (A kA) j x)) σ' → G z cc RX1 nL R D b σ' k n pc' lv (st)) : G z cc RX1 nL R D b σ k n pc lv (.int x :: .int i :: .ref (ad kA) :: st) := by
  have he := hM.2.1 kA hk
  have hm : ∀ f, mar D kA f = oI D (msz kA) f := fun f => by simp [mar, h14]
  rw [hm] at he
  refine g_iast he hi hj (msz_lt kA hk) pc' hp d (kk _ ?_)
  rw [← hm]
  exact hM.ast hk
theorem gm_astZ {z : Dy} {cc : ByteArray} {nL : Nat} {R : Room} {D : DD} {b : Nat} {σ : Hp} {k n pc : Nat} {lv : List (Option Value)} {st : List Value} {h : Nat} {ad : Nat → Nat} {σ0 : Hp} {F : Nat → Int32} {A : Nat → Nat → Int32} {j : Nat} {i x : Int32} (hM : MW D h ad σ0 F A σ) (hi : i = nI j) (hj : j < 40) (hx : vp_nar .boolean x = x) (pc' : Nat) (hp : pc + 1 = pc') (d : decode cc pc = .ok (.bastore, 1)) (kk : ∀ σ' : Hp, MW D h ad σ0 F (uA A 14 (upd (A 14) j x)) σ' → G z cc RX1 nL R D b σ' k n pc' lv (st)) : G z cc RX1 nL R D b σ k n pc lv (.int x :: .int i :: .ref (ad 14) :: st) := by
  refine g_zast hM.a14 hi hj (by decide) pc' hp d (kk _ ?_)
  rw [hx]
  exact hM.ast (k := 14) (by decide)
theorem nzv_0 : vp_nar .boolean 0 = 0 := by decide
theorem nzv_1 : vp_nar .boolean 1 = 1 := by decide
theorem upd_upd (f : Nat → Int32) (k : Nat) (x y : Int32) : upd (upd f k x) k y = upd f k y := by
  funext j
  by_cases h : j = k <;> simp [upd, h]
theorem gm_putU {z : Dy} {cc : ByteArray} {nL : Nat} {R : Room} {D : DD} {b : Nat} {σ : Hp} {k n pc : Nat} {lv : List (Option Value)} {st : List Value} {h : Nat} {ad : Nat → Nat} {σ0 : Hp} {F : Nat → Int32} {A : Nat → Nat → Int32} {index : Nat} {v v0 : Int32} (kf : Nat) (hk : kf ∈ miL) (hM : MW D h ad σ0 (upd F kf v0) A σ) (hlink : Cond.fieldLink RX1 index "DepthSorterModel" (TX1 kf).2.1 (TX1 kf).2.2.1 ∈ lw_all) (pc' : Nat) (hp : pc + 3 = pc') (d : decode cc pc = .ok (.putfield index, 3)) (kk : ∀ σ' : Hp, MW D h ad σ0 (upd F kf v) A σ' → G z cc RX1 nL R D b σ' k n pc' lv (st)) : G z cc RX1 nL R D b σ k n pc lv (.int v :: .ref h :: st) :=
  gm_put kf hk hM hlink pc' hp d (fun σ' h' => kk σ' (by rw [upd_upd] at h'; exact h'))
theorem gm_astU {z : Dy} {cc : ByteArray} {nL : Nat} {R : Room} {D : DD} {b : Nat} {σ : Hp} {k n pc : Nat} {lv : List (Option Value)} {st : List Value} {h : Nat} {ad : Nat → Nat} {σ0 : Hp} {F : Nat → Int32} {A : Nat → Nat → Int32} {j : Nat} {i x : Int32} {f : Nat → Int32} (kA : Nat) (hk : kA ∈ maL) (h14 : kA ≠ 14) (hM : MW D h ad σ0 F (uA A kA f) σ) (hi : i = nI j) (hj : j < msz kA) (pc' : Nat) (hp : pc + 1 = pc') (d : decode cc pc = .ok (.iastore, 1)) (kk : ∀ σ' : Hp, MW D h ad σ0 F (uA A kA (upd f j x)) σ' → G z cc RX1 nL R D b σ' k n pc' lv (st)) : G z cc RX1 nL R D b σ k n pc lv (.int x :: .int i :: .ref (ad kA) :: st) :=
  gm_ast kA hk h14 hM hi hj pc' hp d (fun σ' h' => kk σ' (by rw [uA_uA, uA_s] at h'; exact h'))
theorem gm_astZU {z : Dy} {cc : ByteArray} {nL : Nat} {R : Room} {D : DD} {b : Nat} {σ : Hp} {k n pc : Nat} {lv : List (Option Value)} {st : List Value} {h : Nat} {ad : Nat → Nat} {σ0 : Hp} {F : Nat → Int32} {A : Nat → Nat → Int32} {j : Nat} {i x : Int32} {f : Nat → Int32} (hM : MW D h ad σ0 F (uA A 14 f) σ) (hi : i = nI j) (hj : j < 40) (hx : vp_nar .boolean x = x) (pc' : Nat) (hp : pc + 1 = pc') (d : decode cc pc = .ok (.bastore, 1)) (kk : ∀ σ' : Hp, MW D h ad σ0 F (uA A 14 (upd f j x)) σ' → G z cc RX1 nL R D b σ' k n pc' lv (st)) : G z cc RX1 nL R D b σ k n pc lv (.int x :: .int i :: .ref (ad 14) :: st) :=
  gm_astZ hM hi hj hx pc' hp d (fun σ' h' => kk σ' (by rw [uA_uA, uA_s] at h'; exact h'))
theorem uA_c {A : Nat → Nat → Int32} {k j : Nat} {f g : Nat → Int32} (h : k ≠ j) : uA (uA A k f) j g = uA (uA A j g) k f := by
  funext x
  by_cases h1 : x = k
  · subst h1; simp [uA, h]
  · simp [uA, h1]
theorem upd_c {f : Nat → Int32} {k j : Nat} {a c : Int32} (h : k ≠ j) : upd (upd f k a) j c = upd (upd f j c) k a := by
  funext x
  by_cases h1 : x = k
  · subst h1; simp [upd, h]
  · simp [upd, h1]
/-! ===== pure words of both sides ===== -/
def inR (v lo hi : Int32) : Bool := !(decide (v < lo)) && !(decide (hi < v))
/-- the first place from i on, ahead of n, where p holds; else d -/
def ff (p : Nat → Bool) (d : Int32) (n i : Nat) : Int32 := if i < n then (if p i then nI i else ff p d n (i + 1)) else d
termination_by n - i
theorem ff_end {p : Nat → Bool} {d : Int32} {n i : Nat} (h : n ≤ i) : ff p d n i = d := by rw [ff, if_neg (by omega)]
theorem ff_hit {p : Nat → Bool} {d : Int32} {n i : Nat} (h : i < n) (hp : p i = true) : ff p d n i = nI i := by rw [ff, if_pos h, if_pos hp]
theorem ff_miss {p : Nat → Bool} {d : Int32} {n i : Nat} (h : i < n) (hp : p i = false) : ff p d n i = ff p d n (i + 1) := by rw [ff, if_pos h, hp]; rfl
/-- how many places i < n have p -/
def cn (p : Nat → Bool) : Nat → Nat
  | 0 => 0
  | n + 1 => cn p n + (if p n then 1 else 0)
theorem cn_le (p : Nat → Bool) (n : Nat) : cn p n ≤ n := by
  induction n with
  | zero => exact Nat.le_refl 0
  | succ n ih => simp only [cn]; split <;> omega
/-- all places i < n -/
def al (p : Nat → Bool) : Nat → Bool
  | 0 => true
  | n + 1 => al p n && p n
def an (p : Nat → Bool) : Nat → Bool
  | 0 => false
  | n + 1 => an p n || p n
theorem inR_nat {v : Int32} {m : Int32} {N : Nat} (h : inR v 0 m = true) (hm : m.toInt = N) : ∃ j : Nat, j ≤ N ∧ v = nI j := by
  simp only [inR, Bool.and_eq_true, Bool.not_eq_true', decide_eq_false_iff_not] at h
  exact nI_of2 hm h.1 (Int32.not_lt.mp h.2)
theorem inR_nI {j N : Nat} (hj : j ≤ N) (hN : N < 2 ^ 31) : inR (nI j) 0 (nI N) = true := by
  simp only [inR, Bool.and_eq_true, Bool.not_eq_true', decide_eq_false_iff_not]
  exact ⟨nI_pos (by omega), nI_nlt hj hN⟩
theorem bI_and (p q : Bool) : bI p &&& bI q = bI (p && q) := by cases p <;> cases q <;> decide
theorem bI_or (p q : Bool) : bI p ||| bI q = bI (p || q) := by cases p <;> cases q <;> decide
theorem one_b : (1 : Int32) = bI true := rfl
theorem zero_b : (0 : Int32) = bI false := rfl
