/-! THE LAYER G: the heap as a function from addresses to cells; locals as a list; one judgement G, rows by instruction -/
set_option maxRecDepth 100000
abbrev Hp : Type := Nat → Option va_E
abbrev DD : Type := va_G × (Nat → ClassId) × (Nat → Nat)
def gcl : List vw_C := [(RX0, TX0, 18), (RX1, TX1, 28), (RX2, TX2, 3), (RX3, TX3, 1), (RX4, TX4, 3), (RX5, TX5, 5), (RX6, TX6, 7), (RJ3, TJ3, 4), (RJ11, TJ11, 3), (RJ17, TJ17, 5), (RJ4, TJ4, 3), (RJ7, TJ7, 3), (RJ30, TJ30, 4), (RJ29, TJ29, 3), (RJ6, TJ6, 1)]
def gtys (D : DD) : List (ClassId × FieldType) := [(D.2.1 0, .int), (D.2.1 1, .boolean), (D.2.1 2, .byte), (D.2.1 3, .long), (D.2.1 4, .object "java/lang/Object"), (D.2.1 5, .object "DepthSorter$Box"), (D.2.1 6, .object "DepthSorter$Space")]
abbrev oI (D : DD) (n : Nat) (f : Nat → Int32) : va_E := .inl (D.2.1 0, n, .inl f)
abbrev oZ (D : DD) (n : Nat) (f : Nat → Int32) : va_E := .inl (D.2.1 1, n, .inl f)
abbrev oB (D : DD) (n : Nat) (f : Nat → Int32) : va_E := .inl (D.2.1 2, n, .inl f)
abbrev oL (D : DD) (n : Nat) (f : Nat → Int64) : va_E := .inl (D.2.1 3, n, .inr (.inl f))
abbrev oO (D : DD) (n : Nat) (f : Nat → Option Nat) : va_E := .inl (D.2.1 4, n, .inr (.inr (.inr (.inr f))))
abbrev oX (D : DD) (n : Nat) (f : Nat → Option Nat) : va_E := .inl (D.2.1 5, n, .inr (.inr (.inr (.inr f))))
abbrev oS (D : DD) (n : Nat) (f : Nat → Option Nat) : va_E := .inl (D.2.1 6, n, .inr (.inr (.inr (.inr f))))
def up (σ : Hp) (a : Nat) (e : va_E) : Hp := fun j => if j = a then some e else σ j
theorem up_s (σ : Hp) (a : Nat) (e : va_E) : up σ a e a = some e := by simp [up]
theorem up_n {σ : Hp} {a j : Nat} {e : va_E} (h : j ≠ a) : up σ a e j = σ j := by simp [up, h]
def Rep (σ : Hp) (ws : va_W) : Prop := ∀ (a : Nat) (e : va_E), σ a = some e ↔ ∃ k : Nat, ws[k]? = some (a, e)
theorem Rep.set {σ : Hp} {ws : va_W} {A : Nat → Prop} {k a : Nat} {e0 : va_E} (e : va_E) (h : Rep σ ws) (hD : va_D A ws) (hk : ws[k]? = some (a, e0)) : Rep (up σ a e) (ws.set k (a, e)) := by
  have hl := (List.getElem?_eq_some_iff.mp hk).1
  intro x y
  by_cases hx : x = a
  · subst hx
    rw [up_s]
    constructor
    · intro q
      cases q
      exact ⟨k, by rw [List.getElem?_set_self hl]⟩
    · rintro ⟨j, hj⟩
      by_cases hjk : j = k
      · subst hjk
        rw [List.getElem?_set_self hl] at hj
        cases hj
        rfl
      · rw [List.getElem?_set_ne (Ne.symm hjk)] at hj
        exact absurd (hD.1 j k _ _ hj hk rfl) hjk
  · rw [up_n hx]
    constructor
    · intro q
      obtain ⟨j, hj⟩ := (h x y).1 q
      have hjk : j ≠ k := fun z => by
        subst z
        rw [hk] at hj
        cases hj
        exact hx rfl
      exact ⟨j, by rw [List.getElem?_set_ne (Ne.symm hjk)]; exact hj⟩
    · rintro ⟨j, hj⟩
      have hjk : j ≠ k := fun z => by
        subst z
        rw [List.getElem?_set_self hl] at hj
        cases hj
        exact hx rfl
      rw [List.getElem?_set_ne (Ne.symm hjk)] at hj
      exact (h x y).2 ⟨j, hj⟩
theorem Rep.fresh {σ : Hp} {ws : va_W} {A : Nat → Prop} {q : Nat} {e : va_E} (h : Rep σ ws) (hD : va_D A (ws ++ [(q, e)])) : σ q = none := by
  cases hx : σ q with
  | none => rfl
  | some e0 =>
    obtain ⟨k, hk⟩ := (h q e0).1 hx
    have hl := (List.getElem?_eq_some_iff.mp hk).1
    have h1 : (ws ++ [(q, e)])[k]? = some (q, e0) := by rw [List.getElem?_append_left hl]; exact hk
    have h2 : (ws ++ [(q, e)])[ws.length]? = some (q, e) := by rw [List.getElem?_append_right (Nat.le_refl _), Nat.sub_self]; rfl
    have := hD.1 _ _ _ _ h1 h2 rfl
    omega
theorem Rep.push {σ : Hp} {ws : va_W} {q : Nat} {e : va_E} (h : Rep σ ws) (hq : σ q = none) : Rep (up σ q e) (ws ++ [(q, e)]) := by
  intro x y
  by_cases hx : x = q
  · subst hx
    rw [up_s]
    constructor
    · intro z
      cases z
      exact ⟨ws.length, by rw [List.getElem?_append_right (Nat.le_refl _), Nat.sub_self]; rfl⟩
    · rintro ⟨j, hj⟩
      by_cases hl : j < ws.length
      · rw [List.getElem?_append_left hl] at hj
        rw [(h x y).2 ⟨j, hj⟩] at hq
        cases hq
      · rw [List.getElem?_append_right (by omega)] at hj
        have hz : j - ws.length < 1 := (List.getElem?_eq_some_iff.mp hj).1
        rw [show j - ws.length = 0 by omega] at hj
        cases hj
        rfl
  · rw [up_n hx]
    constructor
    · intro z
      obtain ⟨j, hj⟩ := (h x y).1 z
      have hl := (List.getElem?_eq_some_iff.mp hj).1
      exact ⟨j, by rw [List.getElem?_append_left hl]; exact hj⟩
    · rintro ⟨j, hj⟩
      by_cases hl : j < ws.length
      · rw [List.getElem?_append_left hl] at hj
        exact (h x y).2 ⟨j, hj⟩
      · rw [List.getElem?_append_right (by omega)] at hj
        have hz : j - ws.length < 1 := (List.getElem?_eq_some_iff.mp hj).1
        rw [show j - ws.length = 0 by omega] at hj
        cases hj
        exact absurd rfl hx
/-- the heap H holds just the cells of σ, from the address b on -/
def HS (D : DD) (b : Nat) (σ : Hp) (H : Heap) : Prop := ∃ ws : va_W, va_P D.1 gcl ws H ∧ va_D (fun q => b ≤ q) ws ∧ Rep σ ws
theorem HS.nil {D : DD} {b : Nat} {H : Heap} : HS D b (fun _ => none) H := ⟨[], fun k q h => by simp at h, ⟨fun i j p q h => by simp at h, fun k q h => by simp at h⟩, fun a e => by simp⟩
theorem HS.ge {D : DD} {b : Nat} {σ : Hp} {H : Heap} (h : HS D b σ H) {a : Nat} {e : va_E} (he : σ a = some e) : b ≤ a := by
  obtain ⟨ws, hP, hD, hR⟩ := h
  obtain ⟨k, hk⟩ := (hR a e).1 he
  exact hD.2 k _ hk
/-! ===== locals as a list ===== -/
def lvp : Nat → List (Option Value) → List (Nat × Value)
  | _, [] => []
  | i, none :: t => lvp (i + 1) t
  | i, some v :: t => (i, v) :: lvp (i + 1) t
theorem lvp_mem : ∀ (lv : List (Option Value)) (i : Nat) (q : Nat × Value), q ∈ lvp i lv ↔ ∃ j : Nat, lv[j]? = some (some q.2) ∧ q.1 = i + j
  | [], i, q => by simp [lvp]
  | none :: t, i, q => by
    rw [lvp, lvp_mem t (i + 1) q]
    constructor
    · rintro ⟨j, h1, h2⟩
      exact ⟨j + 1, by simpa using h1, by omega⟩
    · rintro ⟨j, h1, h2⟩
      cases j with
      | zero => simp at h1
      | succ j => exact ⟨j, by simpa using h1, by omega⟩
  | some v :: t, i, q => by
    rw [lvp, List.mem_cons, lvp_mem t (i + 1) q]
    constructor
    · rintro (h | ⟨j, h1, h2⟩)
      · subst h
        exact ⟨0, by simp, by simp⟩
      · exact ⟨j + 1, by simpa using h1, by omega⟩
    · rintro ⟨j, h1, h2⟩
      cases j with
      | zero =>
        left
        obtain ⟨q1, q2⟩ := q
        simp at h1 h2
        rw [h1, h2]
      | succ j => exact Or.inr ⟨j, by simpa using h1, by omega⟩
def LH (ls : Array Slot) (nL : Nat) (lv : List (Option Value)) : Prop := lv_has ls nL (lvp 0 lv) ∧ (∀ (j : Nat) (v : Value), lv[j]? = some (some v) → v.category = 1) ∧ lv.length = nL
def LdAt (lv : List (Option Value)) (i : Nat) (v : Value) : Prop := lv[i]? = some (some v)
def SetAt (lv : List (Option Value)) (i : Nat) (v : Value) (lv' : List (Option Value)) : Prop := i < lv.length ∧ lv' = lv.set i (some v)
theorem LH.ld {ls : Array Slot} {nL : Nat} {lv : List (Option Value)} {i : Nat} {v : Value} (h : LH ls nL lv) (e : LdAt lv i v) : ls[i]? = some (.val v) := h.1.2.2 (i, v) ((lvp_mem lv 0 (i, v)).2 ⟨i, e, (Nat.zero_add i).symm⟩)
theorem LH.put {ls ls' : Array Slot} {nL : Nat} {lv lv' : List (Option Value)} {i : Nat} {v : Value} (h : LH ls nL lv) (hs : SetAt lv i v lv') (hc : v.category = 1) (h' : lv_has ls' nL ((i, v) :: (lvp 0 lv).filter (fun q => !(q.1 == i) && !(q.1 + 1 == i && q.2.category == 2)))) : LH ls' nL lv' := by
  obtain ⟨hl, rfl⟩ := hs
  refine ⟨⟨h'.1, h'.2.1, fun q hq => ?_⟩, fun j w hj => ?_, by rw [List.length_set]; exact h.2.2⟩
  · obtain ⟨j, hj, e⟩ := (lvp_mem _ 0 q).1 hq
    by_cases hji : j = i
    · subst hji
      rw [List.getElem?_set_self hl] at hj
      have hq2 : q = (j, v) := by
        obtain ⟨q1, q2⟩ := q
        simp at hj e ⊢
        exact ⟨e, hj.symm⟩
      exact h'.2.2 q (by rw [hq2]; exact List.mem_cons_self)
    · rw [List.getElem?_set_ne (Ne.symm hji)] at hj
      refine h'.2.2 q (List.mem_cons_of_mem _ (List.mem_filter.mpr ⟨(lvp_mem lv 0 q).2 ⟨j, hj, e⟩, ?_⟩))
      have hc1 := h.2.1 j q.2 hj
      have hne : ¬ q.1 = i := by omega
      simp [hc1, hne]
  · by_cases hji : j = i
    · subst hji
      rw [List.getElem?_set_self hl] at hj
      cases hj
      exact hc
    · rw [List.getElem?_set_ne (Ne.symm hji)] at hj
      exact h.2.1 j w hj
theorem LH.lt {ls : Array Slot} {nL : Nat} {lv lv' : List (Option Value)} {i : Nat} {v : Value} (h : LH ls nL lv) (hs : SetAt lv i v lv') : i < nL := by rw [← h.2.2]; exact hs.1
theorem lvp_args : ∀ (vs : List Value) (i : Nat) (n : Nat), (∀ v ∈ vs, v.category = 1) → lvp i (vs.map some ++ List.replicate n none) = lv_args i vs
  | [], i, n, _ => by
    show lvp i (List.replicate n none) = _
    induction n generalizing i with
    | zero => rfl
    | succ n ih => exact ih (i + 1)
  | v :: t, i, n, h => by
    have hv := h v List.mem_cons_self
    show (i, v) :: lvp (i + 1) (t.map some ++ List.replicate n none) = _
    rw [lvp_args t (i + 1) n (fun w hw => h w (List.mem_cons_of_mem _ hw))]
    simp [lv_args, hv]
theorem LH.entry {vs : List Value} {nL : Nat} {lv : List (Option Value)} (hc : ∀ v ∈ vs, v.category = 1) (hn : vs.length ≤ nL) (hlv : vs.map some ++ List.replicate (nL - vs.length) none = lv) : LH ((lg_sl vs ++ List.replicate (nL - (lg_sl vs).length) Slot.unset).toArray) nL lv := by
  have h0 : (lg_sl vs).length = vs.length := by
    clear hn hlv
    induction vs with
    | nil => rfl
    | cons v t ih =>
      have hv := hc v List.mem_cons_self
      have := ih (fun w hw => hc w (List.mem_cons_of_mem _ hw))
      simp only [lg_sl] at this ⊢
      simp [hv, this]
  subst hlv
  refine ⟨?_, fun j v hj => ?_, by simp; omega⟩
  · rw [lvp_args vs 0 _ hc]
    exact lv_entry vs (by rw [h0]; exact hn)
  · by_cases hl : j < vs.length
    · rw [List.getElem?_append_left (by simpa using hl)] at hj
      simp only [List.getElem?_map] at hj
      cases hx : vs[j]? with
      | none => rw [hx] at hj; cases hj
      | some x =>
        rw [hx] at hj
        simp at hj
        rw [← hj]
        exact hc x (List.mem_of_getElem? hx)
    · rw [List.getElem?_append_right (by simp; omega)] at hj
      have := List.mem_of_getElem? hj
      simp at this
theorem ld_0 {t : List (Option Value)} {v : Value} : LdAt (some v :: t) 0 v := rfl
theorem sa_0 {c : Option Value} {t : List (Option Value)} {v : Value} : SetAt (c :: t) 0 v (some v :: t) := ⟨Nat.lt_of_lt_of_le (Nat.lt_succ_self 0) (Nat.le_add_left 1 t.length), rfl⟩
theorem ld_1 {a0 : Option Value} {t : List (Option Value)} {v : Value} : LdAt (a0 :: some v :: t) 1 v := rfl
theorem sa_1 {a0 : Option Value} {c : Option Value} {t : List (Option Value)} {v : Value} : SetAt (a0 :: c :: t) 1 v (a0 :: some v :: t) := ⟨Nat.lt_of_lt_of_le (Nat.lt_succ_self 1) (Nat.le_add_left 2 t.length), rfl⟩
theorem ld_2 {a0 a1 : Option Value} {t : List (Option Value)} {v : Value} : LdAt (a0 :: a1 :: some v :: t) 2 v := rfl
theorem sa_2 {a0 a1 : Option Value} {c : Option Value} {t : List (Option Value)} {v : Value} : SetAt (a0 :: a1 :: c :: t) 2 v (a0 :: a1 :: some v :: t) := ⟨Nat.lt_of_lt_of_le (Nat.lt_succ_self 2) (Nat.le_add_left 3 t.length), rfl⟩
theorem ld_3 {a0 a1 a2 : Option Value} {t : List (Option Value)} {v : Value} : LdAt (a0 :: a1 :: a2 :: some v :: t) 3 v := rfl
theorem sa_3 {a0 a1 a2 : Option Value} {c : Option Value} {t : List (Option Value)} {v : Value} : SetAt (a0 :: a1 :: a2 :: c :: t) 3 v (a0 :: a1 :: a2 :: some v :: t) := ⟨Nat.lt_of_lt_of_le (Nat.lt_succ_self 3) (Nat.le_add_left 4 t.length), rfl⟩
theorem ld_4 {a0 a1 a2 a3 : Option Value} {t : List (Option Value)} {v : Value} : LdAt (a0 :: a1 :: a2 :: a3 :: some v :: t) 4 v := rfl
theorem sa_4 {a0 a1 a2 a3 : Option Value} {c : Option Value} {t : List (Option Value)} {v : Value} : SetAt (a0 :: a1 :: a2 :: a3 :: c :: t) 4 v (a0 :: a1 :: a2 :: a3 :: some v :: t) := ⟨Nat.lt_of_lt_of_le (Nat.lt_succ_self 4) (Nat.le_add_left 5 t.length), rfl⟩
theorem ld_5 {a0 a1 a2 a3 a4 : Option Value} {t : List (Option Value)} {v : Value} : LdAt (a0 :: a1 :: a2 :: a3 :: a4 :: some v :: t) 5 v := rfl
theorem sa_5 {a0 a1 a2 a3 a4 : Option Value} {c : Option Value} {t : List (Option Value)} {v : Value} : SetAt (a0 :: a1 :: a2 :: a3 :: a4 :: c :: t) 5 v (a0 :: a1 :: a2 :: a3 :: a4 :: some v :: t) := ⟨Nat.lt_of_lt_of_le (Nat.lt_succ_self 5) (Nat.le_add_left 6 t.length), rfl⟩
theorem ld_6 {a0 a1 a2 a3 a4 a5 : Option Value} {t : List (Option Value)} {v : Value} : LdAt (a0 :: a1 :: a2 :: a3 :: a4 :: a5 :: some v :: t) 6 v := rfl
theorem sa_6 {a0 a1 a2 a3 a4 a5 : Option Value} {c : Option Value} {t : List (Option Value)} {v : Value} : SetAt (a0 :: a1 :: a2 :: a3 :: a4 :: a5 :: c :: t) 6 v (a0 :: a1 :: a2 :: a3 :: a4 :: a5 :: some v :: t) := ⟨Nat.lt_of_lt_of_le (Nat.lt_succ_self 6) (Nat.le_add_left 7 t.length), rfl⟩
theorem ld_7 {a0 a1 a2 a3 a4 a5 a6 : Option Value} {t : List (Option Value)} {v : Value} : LdAt (a0 :: a1 :: a2 :: a3 :: a4 :: a5 :: a6 :: some v :: t) 7 v := rfl
theorem sa_7 {a0 a1 a2 a3 a4 a5 a6 : Option Value} {c : Option Value} {t : List (Option Value)} {v : Value} : SetAt (a0 :: a1 :: a2 :: a3 :: a4 :: a5 :: a6 :: c :: t) 7 v (a0 :: a1 :: a2 :: a3 :: a4 :: a5 :: a6 :: some v :: t) := ⟨Nat.lt_of_lt_of_le (Nat.lt_succ_self 7) (Nat.le_add_left 8 t.length), rfl⟩
theorem ld_8 {a0 a1 a2 a3 a4 a5 a6 a7 : Option Value} {t : List (Option Value)} {v : Value} : LdAt (a0 :: a1 :: a2 :: a3 :: a4 :: a5 :: a6 :: a7 :: some v :: t) 8 v := rfl
theorem sa_8 {a0 a1 a2 a3 a4 a5 a6 a7 : Option Value} {c : Option Value} {t : List (Option Value)} {v : Value} : SetAt (a0 :: a1 :: a2 :: a3 :: a4 :: a5 :: a6 :: a7 :: c :: t) 8 v (a0 :: a1 :: a2 :: a3 :: a4 :: a5 :: a6 :: a7 :: some v :: t) := ⟨Nat.lt_of_lt_of_le (Nat.lt_succ_self 8) (Nat.le_add_left 9 t.length), rfl⟩
theorem ld_9 {a0 a1 a2 a3 a4 a5 a6 a7 a8 : Option Value} {t : List (Option Value)} {v : Value} : LdAt (a0 :: a1 :: a2 :: a3 :: a4 :: a5 :: a6 :: a7 :: a8 :: some v :: t) 9 v := rfl
theorem sa_9 {a0 a1 a2 a3 a4 a5 a6 a7 a8 : Option Value} {c : Option Value} {t : List (Option Value)} {v : Value} : SetAt (a0 :: a1 :: a2 :: a3 :: a4 :: a5 :: a6 :: a7 :: a8 :: c :: t) 9 v (a0 :: a1 :: a2 :: a3 :: a4 :: a5 :: a6 :: a7 :: a8 :: some v :: t) := ⟨Nat.lt_of_lt_of_le (Nat.lt_succ_self 9) (Nat.le_add_left 10 t.length), rfl⟩
theorem ld_10 {a0 a1 a2 a3 a4 a5 a6 a7 a8 a9 : Option Value} {t : List (Option Value)} {v : Value} : LdAt (a0 :: a1 :: a2 :: a3 :: a4 :: a5 :: a6 :: a7 :: a8 :: a9 :: some v :: t) 10 v := rfl
theorem sa_10 {a0 a1 a2 a3 a4 a5 a6 a7 a8 a9 : Option Value} {c : Option Value} {t : List (Option Value)} {v : Value} : SetAt (a0 :: a1 :: a2 :: a3 :: a4 :: a5 :: a6 :: a7 :: a8 :: a9 :: c :: t) 10 v (a0 :: a1 :: a2 :: a3 :: a4 :: a5 :: a6 :: a7 :: a8 :: a9 :: some v :: t) := ⟨Nat.lt_of_lt_of_le (Nat.lt_succ_self 10) (Nat.le_add_left 11 t.length), rfl⟩
theorem ld_11 {a0 a1 a2 a3 a4 a5 a6 a7 a8 a9 a10 : Option Value} {t : List (Option Value)} {v : Value} : LdAt (a0 :: a1 :: a2 :: a3 :: a4 :: a5 :: a6 :: a7 :: a8 :: a9 :: a10 :: some v :: t) 11 v := rfl
theorem sa_11 {a0 a1 a2 a3 a4 a5 a6 a7 a8 a9 a10 : Option Value} {c : Option Value} {t : List (Option Value)} {v : Value} : SetAt (a0 :: a1 :: a2 :: a3 :: a4 :: a5 :: a6 :: a7 :: a8 :: a9 :: a10 :: c :: t) 11 v (a0 :: a1 :: a2 :: a3 :: a4 :: a5 :: a6 :: a7 :: a8 :: a9 :: a10 :: some v :: t) := ⟨Nat.lt_of_lt_of_le (Nat.lt_succ_self 11) (Nat.le_add_left 12 t.length), rfl⟩
theorem ld_12 {a0 a1 a2 a3 a4 a5 a6 a7 a8 a9 a10 a11 : Option Value} {t : List (Option Value)} {v : Value} : LdAt (a0 :: a1 :: a2 :: a3 :: a4 :: a5 :: a6 :: a7 :: a8 :: a9 :: a10 :: a11 :: some v :: t) 12 v := rfl
theorem sa_12 {a0 a1 a2 a3 a4 a5 a6 a7 a8 a9 a10 a11 : Option Value} {c : Option Value} {t : List (Option Value)} {v : Value} : SetAt (a0 :: a1 :: a2 :: a3 :: a4 :: a5 :: a6 :: a7 :: a8 :: a9 :: a10 :: a11 :: c :: t) 12 v (a0 :: a1 :: a2 :: a3 :: a4 :: a5 :: a6 :: a7 :: a8 :: a9 :: a10 :: a11 :: some v :: t) := ⟨Nat.lt_of_lt_of_le (Nat.lt_succ_self 12) (Nat.le_add_left 13 t.length), rfl⟩
theorem ld_13 {a0 a1 a2 a3 a4 a5 a6 a7 a8 a9 a10 a11 a12 : Option Value} {t : List (Option Value)} {v : Value} : LdAt (a0 :: a1 :: a2 :: a3 :: a4 :: a5 :: a6 :: a7 :: a8 :: a9 :: a10 :: a11 :: a12 :: some v :: t) 13 v := rfl
theorem sa_13 {a0 a1 a2 a3 a4 a5 a6 a7 a8 a9 a10 a11 a12 : Option Value} {c : Option Value} {t : List (Option Value)} {v : Value} : SetAt (a0 :: a1 :: a2 :: a3 :: a4 :: a5 :: a6 :: a7 :: a8 :: a9 :: a10 :: a11 :: a12 :: c :: t) 13 v (a0 :: a1 :: a2 :: a3 :: a4 :: a5 :: a6 :: a7 :: a8 :: a9 :: a10 :: a11 :: a12 :: some v :: t) := ⟨Nat.lt_of_lt_of_le (Nat.lt_succ_self 13) (Nat.le_add_left 14 t.length), rfl⟩
theorem ld_14 {a0 a1 a2 a3 a4 a5 a6 a7 a8 a9 a10 a11 a12 a13 : Option Value} {t : List (Option Value)} {v : Value} : LdAt (a0 :: a1 :: a2 :: a3 :: a4 :: a5 :: a6 :: a7 :: a8 :: a9 :: a10 :: a11 :: a12 :: a13 :: some v :: t) 14 v := rfl
theorem sa_14 {a0 a1 a2 a3 a4 a5 a6 a7 a8 a9 a10 a11 a12 a13 : Option Value} {c : Option Value} {t : List (Option Value)} {v : Value} : SetAt (a0 :: a1 :: a2 :: a3 :: a4 :: a5 :: a6 :: a7 :: a8 :: a9 :: a10 :: a11 :: a12 :: a13 :: c :: t) 14 v (a0 :: a1 :: a2 :: a3 :: a4 :: a5 :: a6 :: a7 :: a8 :: a9 :: a10 :: a11 :: a12 :: a13 :: some v :: t) := ⟨Nat.lt_of_lt_of_le (Nat.lt_succ_self 14) (Nat.le_add_left 15 t.length), rfl⟩
theorem ld_15 {a0 a1 a2 a3 a4 a5 a6 a7 a8 a9 a10 a11 a12 a13 a14 : Option Value} {t : List (Option Value)} {v : Value} : LdAt (a0 :: a1 :: a2 :: a3 :: a4 :: a5 :: a6 :: a7 :: a8 :: a9 :: a10 :: a11 :: a12 :: a13 :: a14 :: some v :: t) 15 v := rfl
theorem sa_15 {a0 a1 a2 a3 a4 a5 a6 a7 a8 a9 a10 a11 a12 a13 a14 : Option Value} {c : Option Value} {t : List (Option Value)} {v : Value} : SetAt (a0 :: a1 :: a2 :: a3 :: a4 :: a5 :: a6 :: a7 :: a8 :: a9 :: a10 :: a11 :: a12 :: a13 :: a14 :: c :: t) 15 v (a0 :: a1 :: a2 :: a3 :: a4 :: a5 :: a6 :: a7 :: a8 :: a9 :: a10 :: a11 :: a12 :: a13 :: a14 :: some v :: t) := ⟨Nat.lt_of_lt_of_le (Nat.lt_succ_self 15) (Nat.le_add_left 16 t.length), rfl⟩
theorem ld_16 {a0 a1 a2 a3 a4 a5 a6 a7 a8 a9 a10 a11 a12 a13 a14 a15 : Option Value} {t : List (Option Value)} {v : Value} : LdAt (a0 :: a1 :: a2 :: a3 :: a4 :: a5 :: a6 :: a7 :: a8 :: a9 :: a10 :: a11 :: a12 :: a13 :: a14 :: a15 :: some v :: t) 16 v := rfl
theorem sa_16 {a0 a1 a2 a3 a4 a5 a6 a7 a8 a9 a10 a11 a12 a13 a14 a15 : Option Value} {c : Option Value} {t : List (Option Value)} {v : Value} : SetAt (a0 :: a1 :: a2 :: a3 :: a4 :: a5 :: a6 :: a7 :: a8 :: a9 :: a10 :: a11 :: a12 :: a13 :: a14 :: a15 :: c :: t) 16 v (a0 :: a1 :: a2 :: a3 :: a4 :: a5 :: a6 :: a7 :: a8 :: a9 :: a10 :: a11 :: a12 :: a13 :: a14 :: a15 :: some v :: t) := ⟨Nat.lt_of_lt_of_le (Nat.lt_succ_self 16) (Nat.le_add_left 17 t.length), rfl⟩
theorem ld_17 {a0 a1 a2 a3 a4 a5 a6 a7 a8 a9 a10 a11 a12 a13 a14 a15 a16 : Option Value} {t : List (Option Value)} {v : Value} : LdAt (a0 :: a1 :: a2 :: a3 :: a4 :: a5 :: a6 :: a7 :: a8 :: a9 :: a10 :: a11 :: a12 :: a13 :: a14 :: a15 :: a16 :: some v :: t) 17 v := rfl
theorem sa_17 {a0 a1 a2 a3 a4 a5 a6 a7 a8 a9 a10 a11 a12 a13 a14 a15 a16 : Option Value} {c : Option Value} {t : List (Option Value)} {v : Value} : SetAt (a0 :: a1 :: a2 :: a3 :: a4 :: a5 :: a6 :: a7 :: a8 :: a9 :: a10 :: a11 :: a12 :: a13 :: a14 :: a15 :: a16 :: c :: t) 17 v (a0 :: a1 :: a2 :: a3 :: a4 :: a5 :: a6 :: a7 :: a8 :: a9 :: a10 :: a11 :: a12 :: a13 :: a14 :: a15 :: a16 :: some v :: t) := ⟨Nat.lt_of_lt_of_le (Nat.lt_succ_self 17) (Nat.le_add_left 18 t.length), rfl⟩
theorem ld_18 {a0 a1 a2 a3 a4 a5 a6 a7 a8 a9 a10 a11 a12 a13 a14 a15 a16 a17 : Option Value} {t : List (Option Value)} {v : Value} : LdAt (a0 :: a1 :: a2 :: a3 :: a4 :: a5 :: a6 :: a7 :: a8 :: a9 :: a10 :: a11 :: a12 :: a13 :: a14 :: a15 :: a16 :: a17 :: some v :: t) 18 v := rfl
theorem sa_18 {a0 a1 a2 a3 a4 a5 a6 a7 a8 a9 a10 a11 a12 a13 a14 a15 a16 a17 : Option Value} {c : Option Value} {t : List (Option Value)} {v : Value} : SetAt (a0 :: a1 :: a2 :: a3 :: a4 :: a5 :: a6 :: a7 :: a8 :: a9 :: a10 :: a11 :: a12 :: a13 :: a14 :: a15 :: a16 :: a17 :: c :: t) 18 v (a0 :: a1 :: a2 :: a3 :: a4 :: a5 :: a6 :: a7 :: a8 :: a9 :: a10 :: a11 :: a12 :: a13 :: a14 :: a15 :: a16 :: a17 :: some v :: t) := ⟨Nat.lt_of_lt_of_le (Nat.lt_succ_self 18) (Nat.le_add_left 19 t.length), rfl⟩
theorem ld_19 {a0 a1 a2 a3 a4 a5 a6 a7 a8 a9 a10 a11 a12 a13 a14 a15 a16 a17 a18 : Option Value} {t : List (Option Value)} {v : Value} : LdAt (a0 :: a1 :: a2 :: a3 :: a4 :: a5 :: a6 :: a7 :: a8 :: a9 :: a10 :: a11 :: a12 :: a13 :: a14 :: a15 :: a16 :: a17 :: a18 :: some v :: t) 19 v := rfl
theorem sa_19 {a0 a1 a2 a3 a4 a5 a6 a7 a8 a9 a10 a11 a12 a13 a14 a15 a16 a17 a18 : Option Value} {c : Option Value} {t : List (Option Value)} {v : Value} : SetAt (a0 :: a1 :: a2 :: a3 :: a4 :: a5 :: a6 :: a7 :: a8 :: a9 :: a10 :: a11 :: a12 :: a13 :: a14 :: a15 :: a16 :: a17 :: a18 :: c :: t) 19 v (a0 :: a1 :: a2 :: a3 :: a4 :: a5 :: a6 :: a7 :: a8 :: a9 :: a10 :: a11 :: a12 :: a13 :: a14 :: a15 :: a16 :: a17 :: a18 :: some v :: t) := ⟨Nat.lt_of_lt_of_le (Nat.lt_succ_self 19) (Nat.le_add_left 20 t.length), rfl⟩

/-! ===== the world behind every method: classes, statics, the tables' words that don't ride in lw_all ===== -/
def nk : Cond → Bool := fun w => match w with
  | .fieldLinkNest _ _ _ _ _ _ => true
  | .methodLinkNest _ _ _ _ => true
  | .castable _ _ => true
  | .declares _ => true
  | _ => false
theorem nk_on {w : Cond} (h : nk w = true) : w.onTables = true := by
  cases w <;> first | rfl | (simp [nk] at h)
theorem nk_warm {w : Cond} {s U : State} (h : nk w = true) (hW : s.WarmedH U.vm) (hZ : va_Nw w s) : va_Nw w U := by
  cases w <;> first | exact va_Nw.warmF hW hZ | exact va_Nw.warmM hW hZ | exact va_Nw.warmC hW hZ | exact va_Nw.warmD hW hZ | (simp [nk] at h)
def gA (b : Nat) : Nat → Prop := fun q => b ≤ q
/-- the interface calls that this claim makes: receiver's class, the named method, the method that runs -/
def giw : List (String × MethodName × MethodName) := [
  ("java/util/ArrayList", ⟨"java/util/List", "add", "(Ljava/lang/Object;)Z"⟩, ⟨"java/util/ArrayList", "add", "(Ljava/lang/Object;)Z"⟩),
  ("java/util/ArrayList", ⟨"java/util/List", "get", "(I)Ljava/lang/Object;"⟩, ⟨"java/util/ArrayList", "get", "(I)Ljava/lang/Object;"⟩),
  ("java/util/ArrayList", ⟨"java/util/List", "size", "()I"⟩, ⟨"java/util/ArrayList", "size", "()I"⟩),
  ("java/util/ArrayList", ⟨"java/util/List", "isEmpty", "()Z"⟩, ⟨"java/util/ArrayList", "isEmpty", "()Z"⟩),
  ("java/util/ArrayList", ⟨"java/util/List", "clear", "()V"⟩, ⟨"java/util/ArrayList", "clear", "()V"⟩),
  ("java/util/LinkedList$ListItr", ⟨"java/util/Iterator", "hasNext", "()Z"⟩, ⟨"java/util/LinkedList$ListItr", "hasNext", "()Z"⟩),
  ("java/util/LinkedList$ListItr", ⟨"java/util/Iterator", "next", "()Ljava/lang/Object;"⟩, ⟨"java/util/LinkedList$ListItr", "next", "()Ljava/lang/Object;"⟩),
  ("java/util/LinkedList$ListItr", ⟨"java/util/Iterator", "remove", "()V"⟩, ⟨"java/util/LinkedList$ListItr", "remove", "()V"⟩),
  ("java/util/ArrayDeque$DeqIterator", ⟨"java/util/Iterator", "hasNext", "()Z"⟩, ⟨"java/util/ArrayDeque$DeqIterator", "hasNext", "()Z"⟩),
  ("java/util/ArrayDeque$DeqIterator", ⟨"java/util/Iterator", "next", "()Ljava/lang/Object;"⟩, ⟨"java/util/ArrayDeque$DeqIterator", "next", "()Ljava/lang/Object;"⟩)]
theorem giw_ok : ∀ q ∈ giw, q.2.1.cls ≠ "java/lang/invoke/MethodHandle" ∧ q.2.1.cls ≠ "java/lang/invoke/VarHandle" := by decide +kernel
/-- statics, and what they hold: they lie ahead of b, and nobody writes them -/
def WdS (D : DD) (b : Nat) (U : State) : Prop :=
  va_Z "java/util/ArrayList" "DEFAULTCAPACITY_EMPTY_ELEMENTDATA" "[Ljava/lang/Object;" (.ref (D.2.2 0)) (gA b) U U.heap ∧
  va_T (.object "java/lang/Object") (D.2.2 0) 0 (fun _ => .null) (gA b) U U.heap ∧
  va_Z "java/lang/Integer$IntegerCache" "high" "I" (.int 127) (gA b) U U.heap ∧
  va_Z "java/lang/Integer$IntegerCache" "cache" "[Ljava/lang/Integer;" (.ref (D.2.2 1)) (gA b) U U.heap ∧
  va_T (.object "java/lang/Integer") (D.2.2 1) 256 (fun j => .ref (D.2.2 (j + 2))) (gA b) U U.heap ∧
  vb_C (fun j => D.2.2 (j + 2)) (gA b) U U.heap ∧
  va_Z "java/util/BitSet" "$assertionsDisabled" "Z" (.int 1) (gA b) U U.heap ∧
  vx_Zq Bundle.tN "UNASSIGNED_STACK" Bundle.steD (gA b) U U.heap ∧
  vx_Zq Bundle.tN "SUPPRESSED_SENTINEL" Bundle.listD (gA b) U U.heap
theorem WdS.moved {D : DD} {b : Nat} {s U : State} (hvm : s.vm.Alike U.vm) (hq : ∀ a : Nat, a < s.heap.size → ¬ gA b a → U.heap[a]? = s.heap[a]?) (h : WdS D b s) : WdS D b U := by
  obtain ⟨h1, h2, h3, h4, h5, h6, h7, h8, h9⟩ := h
  exact ⟨(h1.kept hq).moved hvm, (h2.kept hq).moved hvm, (h3.kept hq).moved hvm, (h4.kept hq).moved hvm, (h5.kept hq).moved hvm, (h6.kept hq).moved hvm, (h7.kept hq).moved hvm, (h8.kept hq).moved hvm, (h9.kept hq).moved hvm⟩
def Wd (D : DD) (b : Nat) (U : State) : Prop := va_K D.1 gcl (gtys D) U ∧ b ≤ U.heap.size ∧ (∀ w ∈ lw_tbl, nk w = true → va_Nw w U) ∧ (va_AO "DepthSorter$Box" U ∧ va_AO "DepthSorter$Space" U ∧ va_AO "java/lang/Object" U) ∧ (∀ q ∈ giw, va_Fw q.1 q.2.1 q.2.2 U) ∧ WdS D b U
theorem Wd.moved {D : DD} {b : Nat} {s U : State} (hW : s.WarmedH U.vm) (hz : s.heap.size ≤ U.heap.size) (hq : ∀ a : Nat, a < s.heap.size → ¬ gA b a → U.heap[a]? = s.heap[a]?) (h : Wd D b s) : Wd D b U := by
  obtain ⟨h1, h2, h3, ⟨h4, h5, h6⟩, h7, h8⟩ := h
  exact ⟨va_K.moved hW.alike h1, Nat.le_trans h2 hz, fun w hw hn => nk_warm hn hW (h3 w hw hn), ⟨va_AO.moved hW.alike h4, va_AO.moved hW.alike h5, va_AO.moved hW.alike h6⟩, fun q hq2 => va_Fw.moved (giw_ok q hq2) hW.alike (h7 q hq2), h8.moved hW.alike hq⟩
/-! ===== the judgement ===== -/
def Dy : Type := Program × Launch × Env × State × MethodId × Array Value × List Frame × Method × Code × (State → Prop)
def Dy.p (z : Dy) : Program := z.1
def Dy.l (z : Dy) : Launch := z.2.1
def Dy.e (z : Dy) : Env := z.2.2.1
def Dy.s (z : Dy) : State := z.2.2.2.1
def Dy.m (z : Dy) : MethodId := z.2.2.2.2.1
def Dy.a (z : Dy) : Array Value := z.2.2.2.2.2.1
def Dy.bl (z : Dy) : List Frame := z.2.2.2.2.2.2.1
def Dy.me (z : Dy) : Method := z.2.2.2.2.2.2.2.1
def Dy.c (z : Dy) : Code := z.2.2.2.2.2.2.2.2.1
def Dy.Q (z : Dy) : State → Prop := z.2.2.2.2.2.2.2.2.2
def Cx (z : Dy) (cc : ByteArray) (own : String) (nL : Nat) (D : DD) (b : Nat) : Prop :=
  z.p.tables.exec = Jvm.exec ∧ z.c.code = cc ∧ z.c.maxLocals = nL ∧ z.s.vm.findClass own = some z.m.cls ∧ (∀ w ∈ lw_all, w.before z.a z.s = true) ∧ z.me.locks = false ∧ Wd D b z.s
abbrev WG (z : Dy) (R : Room) (H : Heap) (locs : List Loc) (k n : Nat) (g : JFrame) : Prop := W z.p z.l z.e R z.s z.m z.a z.bl z.me z.c H locs k n z.Q g
def G (z : Dy) (cc : ByteArray) (own : String) (nL : Nat) (R : Room) (D : DD) (b : Nat) (σ : Hp) (k n pc : Nat) (lv : List (Option Value)) (st : List Value) : Prop :=
  Cx z cc own nL D b → ∀ (H : Heap) (locs : List Loc) (ls : Array Slot), HS D b σ H → va_S (gA b) z.s.heap H locs → LH ls nL lv → WG z R H locs k n (F0 z.m pc ls st)
/-- what a method has done when it returns -/
def QS (D : DD) (b : Nat) (Post : Option Value → Hp → Prop) : Array Value → State → Outcome → State → Prop := fun _ st oc t => (∃ (v : Option Value) (σ : Hp), oc = .returned v ∧ Post v σ ∧ HS D b σ t.heap) ∧ va_F (gA b) st t
/-- a CONTRACT: from the heap σ, with the arguments As -/
def CM (l : Launch) (y : MethodName) (cc : ByteArray) (nL : Nat) (ret : Option FieldType) (R : Room) (D : DD) (b : Nat) (As : List Value) (σ : Hp) (Post : Option Value → Hp → Prop) : Prop :=
  Met l y (ws_ y cc nL ret) R (va_Pc As (fun U => HS D b σ U.heap ∧ Wd D b U)) (QS D b Post) R.cells R.slots (gA b)
/-- what the method's end must show: goes with z through the method -/
def RetOf (z : Dy) (ret : Option FieldType) (R : Room) (D : DD) (b : Nat) (Post : Option Value → Hp → Prop) : Prop :=
  z.me.sig.returnType = ret ∧ z.Q = MQ z.bl (QS D b Post) z.a z.s R.cells R.slots (gA b)
theorem G_widen {z : Dy} {cc : ByteArray} {own : String} {nL : Nat} {R : Room} {D : DD} {b : Nat} {σ : Hp} {k n pc : Nat} {lv : List (Option Value)} {st : List Value} (k' n' : Nat) (h1 : k ≤ k') (h2 : n ≤ n') (kk : G z cc own nL R D b σ k' n' pc lv st) : G z cc own nL R D b σ k n pc lv st :=
  fun hC H locs ls hH hS hL => W.widen h1 h2 (kk hC H locs ls hH hS hL)
theorem pc_blind {D : DD} {b : Nat} {σ : Hp} {As : List Value} : FrameBlind (va_Pc As (fun U => HS D b σ U.heap ∧ Wd D b U)) := fun a U g mk q =>
  ⟨q.1, q.2.1, Wd.moved (s := U) (U := U.calling g mk a) (State.WarmedH.refl U) (Nat.le_refl _) (fun _ _ _ => rfl) q.2.2⟩
theorem CM_of {l : Launch} {y : MethodName} {cc : ByteArray} {nL : Nat} {ret : Option FieldType} {R : Room} {D : DD} {b : Nat} {As : List Value} {σ : Hp} {Post : Option Value → Hp → Prop} (lv : List (Option Value)) (own : String) (hy : plainName y.cls = true) (ho : y.cls = own) (hc : ∀ v ∈ As, v.category = 1) (hn : As.length ≤ nL) (hlv : As.map some ++ List.replicate (nL - As.length) none = lv)
    (body : ∀ z : Dy, z.l = l → RetOf z ret R D b Post → z.me.name = y.name → G z cc own nL R D b σ 0 0 0 lv []) : CM l y cc nL ret R D b As σ Post := by
  refine Met.ofW (cc := cc) (maxL := nL) (ret := ret) hy rfl ?_
  intro p e s m args below meth c s₁ B hml hv
  obtain ⟨rfl, hH, hW⟩ := hv
  have hts := atoms_spec (ws := ws_ y cc nL ret) B.pre
  have hts : ∀ w ∈ lw_all, w.before As.toArray s = true := fun w h => hts w (List.mem_cons_of_mem _ h)
  have hown : s.vm.findClass own = some m.cls := by rw [← ho]; exact findClass_of_methodNamed B.named
  rw [lg_entry_eq]
  exact body ⟨p, l, e, s, m, As.toArray, below, meth, c, MQ below (QS D b Post) As.toArray s R.cells R.slots (gA b)⟩ rfl ⟨B.returns, rfl⟩ (name_of_methodNamed B.named B.method).1 ⟨B.exec, B.bytes, hml, hown, hts, B.notSynchronized, hW⟩ s.heap [] _ hH va_S.rf (LH.entry hc hn hlv)
/-- fewer known locals -/
def LvLe (lv' lv : List (Option Value)) : Prop := lv'.length = lv.length ∧ ∀ (i : Nat) (v : Value), lv'[i]? = some (some v) → lv[i]? = some (some v)
theorem G_lv {z : Dy} {cc : ByteArray} {own : String} {nL : Nat} {R : Room} {D : DD} {b : Nat} {σ : Hp} {k n pc : Nat} {lv lv' : List (Option Value)} {st : List Value} (h : LvLe lv' lv) (kk : G z cc own nL R D b σ k n pc lv' st) : G z cc own nL R D b σ k n pc lv st := fun hC H locs ls hH hS hL =>
  kk hC H locs ls hH hS ⟨⟨hL.1.1, hL.1.2.1, fun q hq => by
    obtain ⟨j, hj, e⟩ := (lvp_mem lv' 0 q).1 hq
    exact hL.1.2.2 q ((lvp_mem lv 0 q).2 ⟨j, h.2 j _ hj, e⟩)⟩, fun j v hj => hL.2.1 j v (h.2 j v hj), h.1.trans hL.2.2⟩
theorem LvLe.z {c : Option Value} {t : List (Option Value)} : LvLe (none :: t) (c :: t) := ⟨rfl, fun i v hi => by
  cases i with
  | zero => simp at hi
  | succ i => simpa using hi⟩
theorem LvLe.s {a : Option Value} {t t' : List (Option Value)} (h : LvLe t' t) : LvLe (a :: t') (a :: t) := ⟨by simp [h.1], fun i v hi => by
  cases i with
  | zero => simpa using hi
  | succ i => simpa using h.2 i v (by simpa using hi)⟩
theorem dr_0 {c : Option Value} {t : List (Option Value)} : LvLe (none :: t) (c :: t) := LvLe.z
theorem dr_1 {a0 : Option Value} {c : Option Value} {t : List (Option Value)} : LvLe (a0 :: none :: t) (a0 :: c :: t) := dr_0.s
theorem dr_2 {a0 a1 : Option Value} {c : Option Value} {t : List (Option Value)} : LvLe (a0 :: a1 :: none :: t) (a0 :: a1 :: c :: t) := dr_1.s
theorem dr_3 {a0 a1 a2 : Option Value} {c : Option Value} {t : List (Option Value)} : LvLe (a0 :: a1 :: a2 :: none :: t) (a0 :: a1 :: a2 :: c :: t) := dr_2.s
theorem dr_4 {a0 a1 a2 a3 : Option Value} {c : Option Value} {t : List (Option Value)} : LvLe (a0 :: a1 :: a2 :: a3 :: none :: t) (a0 :: a1 :: a2 :: a3 :: c :: t) := dr_3.s
theorem dr_5 {a0 a1 a2 a3 a4 : Option Value} {c : Option Value} {t : List (Option Value)} : LvLe (a0 :: a1 :: a2 :: a3 :: a4 :: none :: t) (a0 :: a1 :: a2 :: a3 :: a4 :: c :: t) := dr_4.s
theorem dr_6 {a0 a1 a2 a3 a4 a5 : Option Value} {c : Option Value} {t : List (Option Value)} : LvLe (a0 :: a1 :: a2 :: a3 :: a4 :: a5 :: none :: t) (a0 :: a1 :: a2 :: a3 :: a4 :: a5 :: c :: t) := dr_5.s
theorem dr_7 {a0 a1 a2 a3 a4 a5 a6 : Option Value} {c : Option Value} {t : List (Option Value)} : LvLe (a0 :: a1 :: a2 :: a3 :: a4 :: a5 :: a6 :: none :: t) (a0 :: a1 :: a2 :: a3 :: a4 :: a5 :: a6 :: c :: t) := dr_6.s
theorem dr_8 {a0 a1 a2 a3 a4 a5 a6 a7 : Option Value} {c : Option Value} {t : List (Option Value)} : LvLe (a0 :: a1 :: a2 :: a3 :: a4 :: a5 :: a6 :: a7 :: none :: t) (a0 :: a1 :: a2 :: a3 :: a4 :: a5 :: a6 :: a7 :: c :: t) := dr_7.s
theorem dr_9 {a0 a1 a2 a3 a4 a5 a6 a7 a8 : Option Value} {c : Option Value} {t : List (Option Value)} : LvLe (a0 :: a1 :: a2 :: a3 :: a4 :: a5 :: a6 :: a7 :: a8 :: none :: t) (a0 :: a1 :: a2 :: a3 :: a4 :: a5 :: a6 :: a7 :: a8 :: c :: t) := dr_8.s
theorem dr_10 {a0 a1 a2 a3 a4 a5 a6 a7 a8 a9 : Option Value} {c : Option Value} {t : List (Option Value)} : LvLe (a0 :: a1 :: a2 :: a3 :: a4 :: a5 :: a6 :: a7 :: a8 :: a9 :: none :: t) (a0 :: a1 :: a2 :: a3 :: a4 :: a5 :: a6 :: a7 :: a8 :: a9 :: c :: t) := dr_9.s
theorem dr_11 {a0 a1 a2 a3 a4 a5 a6 a7 a8 a9 a10 : Option Value} {c : Option Value} {t : List (Option Value)} : LvLe (a0 :: a1 :: a2 :: a3 :: a4 :: a5 :: a6 :: a7 :: a8 :: a9 :: a10 :: none :: t) (a0 :: a1 :: a2 :: a3 :: a4 :: a5 :: a6 :: a7 :: a8 :: a9 :: a10 :: c :: t) := dr_10.s
theorem dr_12 {a0 a1 a2 a3 a4 a5 a6 a7 a8 a9 a10 a11 : Option Value} {c : Option Value} {t : List (Option Value)} : LvLe (a0 :: a1 :: a2 :: a3 :: a4 :: a5 :: a6 :: a7 :: a8 :: a9 :: a10 :: a11 :: none :: t) (a0 :: a1 :: a2 :: a3 :: a4 :: a5 :: a6 :: a7 :: a8 :: a9 :: a10 :: a11 :: c :: t) := dr_11.s
theorem dr_13 {a0 a1 a2 a3 a4 a5 a6 a7 a8 a9 a10 a11 a12 : Option Value} {c : Option Value} {t : List (Option Value)} : LvLe (a0 :: a1 :: a2 :: a3 :: a4 :: a5 :: a6 :: a7 :: a8 :: a9 :: a10 :: a11 :: a12 :: none :: t) (a0 :: a1 :: a2 :: a3 :: a4 :: a5 :: a6 :: a7 :: a8 :: a9 :: a10 :: a11 :: a12 :: c :: t) := dr_12.s
theorem dr_14 {a0 a1 a2 a3 a4 a5 a6 a7 a8 a9 a10 a11 a12 a13 : Option Value} {c : Option Value} {t : List (Option Value)} : LvLe (a0 :: a1 :: a2 :: a3 :: a4 :: a5 :: a6 :: a7 :: a8 :: a9 :: a10 :: a11 :: a12 :: a13 :: none :: t) (a0 :: a1 :: a2 :: a3 :: a4 :: a5 :: a6 :: a7 :: a8 :: a9 :: a10 :: a11 :: a12 :: a13 :: c :: t) := dr_13.s
theorem dr_15 {a0 a1 a2 a3 a4 a5 a6 a7 a8 a9 a10 a11 a12 a13 a14 : Option Value} {c : Option Value} {t : List (Option Value)} : LvLe (a0 :: a1 :: a2 :: a3 :: a4 :: a5 :: a6 :: a7 :: a8 :: a9 :: a10 :: a11 :: a12 :: a13 :: a14 :: none :: t) (a0 :: a1 :: a2 :: a3 :: a4 :: a5 :: a6 :: a7 :: a8 :: a9 :: a10 :: a11 :: a12 :: a13 :: a14 :: c :: t) := dr_14.s
theorem dr_16 {a0 a1 a2 a3 a4 a5 a6 a7 a8 a9 a10 a11 a12 a13 a14 a15 : Option Value} {c : Option Value} {t : List (Option Value)} : LvLe (a0 :: a1 :: a2 :: a3 :: a4 :: a5 :: a6 :: a7 :: a8 :: a9 :: a10 :: a11 :: a12 :: a13 :: a14 :: a15 :: none :: t) (a0 :: a1 :: a2 :: a3 :: a4 :: a5 :: a6 :: a7 :: a8 :: a9 :: a10 :: a11 :: a12 :: a13 :: a14 :: a15 :: c :: t) := dr_15.s
theorem dr_17 {a0 a1 a2 a3 a4 a5 a6 a7 a8 a9 a10 a11 a12 a13 a14 a15 a16 : Option Value} {c : Option Value} {t : List (Option Value)} : LvLe (a0 :: a1 :: a2 :: a3 :: a4 :: a5 :: a6 :: a7 :: a8 :: a9 :: a10 :: a11 :: a12 :: a13 :: a14 :: a15 :: a16 :: none :: t) (a0 :: a1 :: a2 :: a3 :: a4 :: a5 :: a6 :: a7 :: a8 :: a9 :: a10 :: a11 :: a12 :: a13 :: a14 :: a15 :: a16 :: c :: t) := dr_16.s
theorem dr_18 {a0 a1 a2 a3 a4 a5 a6 a7 a8 a9 a10 a11 a12 a13 a14 a15 a16 a17 : Option Value} {c : Option Value} {t : List (Option Value)} : LvLe (a0 :: a1 :: a2 :: a3 :: a4 :: a5 :: a6 :: a7 :: a8 :: a9 :: a10 :: a11 :: a12 :: a13 :: a14 :: a15 :: a16 :: a17 :: none :: t) (a0 :: a1 :: a2 :: a3 :: a4 :: a5 :: a6 :: a7 :: a8 :: a9 :: a10 :: a11 :: a12 :: a13 :: a14 :: a15 :: a16 :: a17 :: c :: t) := dr_17.s
theorem dr_19 {a0 a1 a2 a3 a4 a5 a6 a7 a8 a9 a10 a11 a12 a13 a14 a15 a16 a17 a18 : Option Value} {c : Option Value} {t : List (Option Value)} : LvLe (a0 :: a1 :: a2 :: a3 :: a4 :: a5 :: a6 :: a7 :: a8 :: a9 :: a10 :: a11 :: a12 :: a13 :: a14 :: a15 :: a16 :: a17 :: a18 :: none :: t) (a0 :: a1 :: a2 :: a3 :: a4 :: a5 :: a6 :: a7 :: a8 :: a9 :: a10 :: a11 :: a12 :: a13 :: a14 :: a15 :: a16 :: a17 :: a18 :: c :: t) := dr_18.s
theorem ofm1 (x : Int32) : x + Int32.ofInt (-1) = x + (-1) := by rw [show Int32.ofInt (-1) = -1 from by decide]
theorem of1 (x : Int32) : x + Int32.ofInt 1 = x + 1 := by rw [show Int32.ofInt 1 = 1 from by decide]
theorem g_iconst {z : Dy} {cc : ByteArray} {own : String} {nL : Nat} {R : Room} {D : DD} {b : Nat} {σ : Hp} {k n pc : Nat} {lv : List (Option Value)} {st : List Value} {m : Int} {v : Int32} (hv : Int32.ofInt m = v) (pc' : Nat) (hp : pc + 1 = pc') (d : decode cc pc = .ok (.iconst m, 1)) (kk : G z cc own nL R D b σ k n pc' lv (.int v :: st)) : G z cc own nL R D b σ k n pc lv (st) := by
  subst hp
  exact fun hC H locs ls hH hS hL => lv_iconst hC.1 hC.2.1 d hv (kk hC H locs ls hH hS hL)
theorem g_bipush {z : Dy} {cc : ByteArray} {own : String} {nL : Nat} {R : Room} {D : DD} {b : Nat} {σ : Hp} {k n pc : Nat} {lv : List (Option Value)} {st : List Value} {m : Int} {v : Int32} (hv : (Int8.ofInt m).toInt32 = v) (pc' : Nat) (hp : pc + 2 = pc') (d : decode cc pc = .ok (.bipush m, 2)) (kk : G z cc own nL R D b σ k n pc' lv (.int v :: st)) : G z cc own nL R D b σ k n pc lv (st) := by
  subst hp
  exact fun hC H locs ls hH hS hL => lv_bipush hC.1 hC.2.1 d hv (kk hC H locs ls hH hS hL)
theorem g_sipush {z : Dy} {cc : ByteArray} {own : String} {nL : Nat} {R : Room} {D : DD} {b : Nat} {σ : Hp} {k n pc : Nat} {lv : List (Option Value)} {st : List Value} {m : Int} {v : Int32} (hv : (Int16.ofInt m).toInt32 = v) (pc' : Nat) (hp : pc + 3 = pc') (d : decode cc pc = .ok (.sipush m, 3)) (kk : G z cc own nL R D b σ k n pc' lv (.int v :: st)) : G z cc own nL R D b σ k n pc lv (st) := by
  subst hp
  exact fun hC H locs ls hH hS hL => lv_sipush hC.1 hC.2.1 d hv (kk hC H locs ls hH hS hL)
theorem g_null {z : Dy} {cc : ByteArray} {own : String} {nL : Nat} {R : Room} {D : DD} {b : Nat} {σ : Hp} {k n pc : Nat} {lv : List (Option Value)} {st : List Value}  (pc' : Nat) (hp : pc + 1 = pc') (d : decode cc pc = .ok (.aconst_null, 1)) (kk : G z cc own nL R D b σ k n pc' lv (.null :: st)) : G z cc own nL R D b σ k n pc lv (st) := by
  subst hp
  exact fun hC H locs ls hH hS hL => lv_null hC.1 hC.2.1 d (kk hC H locs ls hH hS hL)
theorem g_iload_n {z : Dy} {cc : ByteArray} {own : String} {nL : Nat} {R : Room} {D : DD} {b : Nat} {σ : Hp} {k n pc : Nat} {lv : List (Option Value)} {st : List Value} {q : Fin 4} {i : Nat} {v : Int32} (hi : (q : Nat) = i) (hl : LdAt lv i (.int v)) (pc' : Nat) (hp : pc + 1 = pc') (d : decode cc pc = .ok (.iload_n q, 1)) (kk : G z cc own nL R D b σ k n pc' lv (.int v :: st)) : G z cc own nL R D b σ k n pc lv (st) := by
  subst hp
  exact fun hC H locs ls hH hS hL => lv_iload_n hC.1 hC.2.1 d hi (hL.ld hl) (kk hC H locs ls hH hS hL)
theorem g_iload {z : Dy} {cc : ByteArray} {own : String} {nL : Nat} {R : Room} {D : DD} {b : Nat} {σ : Hp} {k n pc : Nat} {lv : List (Option Value)} {st : List Value} {i : Nat} {v : Int32} (hl : LdAt lv i (.int v)) (pc' : Nat) (hp : pc + 2 = pc') (d : decode cc pc = .ok (.iload i, 2)) (kk : G z cc own nL R D b σ k n pc' lv (.int v :: st)) : G z cc own nL R D b σ k n pc lv (st) := by
  subst hp
  exact fun hC H locs ls hH hS hL => lv_iload hC.1 hC.2.1 d (hL.ld hl) (kk hC H locs ls hH hS hL)
theorem g_aload_n {z : Dy} {cc : ByteArray} {own : String} {nL : Nat} {R : Room} {D : DD} {b : Nat} {σ : Hp} {k n pc : Nat} {lv : List (Option Value)} {st : List Value} {q : Fin 4} {i : Nat} {v : Nat} (hi : (q : Nat) = i) (hl : LdAt lv i (.ref v)) (pc' : Nat) (hp : pc + 1 = pc') (d : decode cc pc = .ok (.aload_n q, 1)) (kk : G z cc own nL R D b σ k n pc' lv (.ref v :: st)) : G z cc own nL R D b σ k n pc lv (st) := by
  subst hp
  exact fun hC H locs ls hH hS hL => lv_aload_n hC.1 hC.2.1 d hi (hL.ld hl) (kk hC H locs ls hH hS hL)
theorem g_aload {z : Dy} {cc : ByteArray} {own : String} {nL : Nat} {R : Room} {D : DD} {b : Nat} {σ : Hp} {k n pc : Nat} {lv : List (Option Value)} {st : List Value} {i : Nat} {v : Nat} (hl : LdAt lv i (.ref v)) (pc' : Nat) (hp : pc + 2 = pc') (d : decode cc pc = .ok (.aload i, 2)) (kk : G z cc own nL R D b σ k n pc' lv (.ref v :: st)) : G z cc own nL R D b σ k n pc lv (st) := by
  subst hp
  exact fun hC H locs ls hH hS hL => lv_aload hC.1 hC.2.1 d (hL.ld hl) (kk hC H locs ls hH hS hL)
theorem g_aload_nN {z : Dy} {cc : ByteArray} {own : String} {nL : Nat} {R : Room} {D : DD} {b : Nat} {σ : Hp} {k n pc : Nat} {lv : List (Option Value)} {st : List Value} {q : Fin 4} {i : Nat} (hi : (q : Nat) = i) (hl : LdAt lv i (.null)) (pc' : Nat) (hp : pc + 1 = pc') (d : decode cc pc = .ok (.aload_n q, 1)) (kk : G z cc own nL R D b σ k n pc' lv (.null :: st)) : G z cc own nL R D b σ k n pc lv (st) := by
  subst hp
  exact fun hC H locs ls hH hS hL => lv_aload_nN hC.1 hC.2.1 d hi (hL.ld hl) (kk hC H locs ls hH hS hL)
theorem g_aloadN {z : Dy} {cc : ByteArray} {own : String} {nL : Nat} {R : Room} {D : DD} {b : Nat} {σ : Hp} {k n pc : Nat} {lv : List (Option Value)} {st : List Value} {i : Nat} (hl : LdAt lv i (.null)) (pc' : Nat) (hp : pc + 2 = pc') (d : decode cc pc = .ok (.aload i, 2)) (kk : G z cc own nL R D b σ k n pc' lv (.null :: st)) : G z cc own nL R D b σ k n pc lv (st) := by
  subst hp
  exact fun hC H locs ls hH hS hL => lv_aloadN hC.1 hC.2.1 d (hL.ld hl) (kk hC H locs ls hH hS hL)
theorem g_istore_n {z : Dy} {cc : ByteArray} {own : String} {nL : Nat} {R : Room} {D : DD} {b : Nat} {σ : Hp} {k n pc : Nat} {lv : List (Option Value)} {st : List Value} {lv' : List (Option Value)} {q : Fin 4} {i : Nat} {v : Int32} (hi : (q : Nat) = i) (hs : SetAt lv i (.int v) lv') (pc' : Nat) (hp : pc + 1 = pc') (d : decode cc pc = .ok (.istore_n q, 1)) (kk : G z cc own nL R D b σ k n pc' lv' (st)) : G z cc own nL R D b σ k n pc lv (.int v :: st) := by
  subst hp
  exact fun hC H locs ls hH hS hL => lv_istore_n hC.1 hC.2.1 d hi hL.1 (hL.lt hs) rfl (fun ls1 h1 => kk hC H locs ls1 hH hS (hL.put hs rfl h1))
theorem g_istore {z : Dy} {cc : ByteArray} {own : String} {nL : Nat} {R : Room} {D : DD} {b : Nat} {σ : Hp} {k n pc : Nat} {lv : List (Option Value)} {st : List Value} {lv' : List (Option Value)} {i : Nat} {v : Int32} (hs : SetAt lv i (.int v) lv') (pc' : Nat) (hp : pc + 2 = pc') (d : decode cc pc = .ok (.istore i, 2)) (kk : G z cc own nL R D b σ k n pc' lv' (st)) : G z cc own nL R D b σ k n pc lv (.int v :: st) := by
  subst hp
  exact fun hC H locs ls hH hS hL => lv_istore hC.1 hC.2.1 d hL.1 (hL.lt hs) rfl (fun ls1 h1 => kk hC H locs ls1 hH hS (hL.put hs rfl h1))
theorem g_astore_n {z : Dy} {cc : ByteArray} {own : String} {nL : Nat} {R : Room} {D : DD} {b : Nat} {σ : Hp} {k n pc : Nat} {lv : List (Option Value)} {st : List Value} {lv' : List (Option Value)} {q : Fin 4} {i : Nat} {v : Nat} (hi : (q : Nat) = i) (hs : SetAt lv i (.ref v) lv') (pc' : Nat) (hp : pc + 1 = pc') (d : decode cc pc = .ok (.astore_n q, 1)) (kk : G z cc own nL R D b σ k n pc' lv' (st)) : G z cc own nL R D b σ k n pc lv (.ref v :: st) := by
  subst hp
  exact fun hC H locs ls hH hS hL => lv_astore_n hC.1 hC.2.1 d hi hL.1 (hL.lt hs) rfl (fun ls1 h1 => kk hC H locs ls1 hH hS (hL.put hs rfl h1))
theorem g_astore {z : Dy} {cc : ByteArray} {own : String} {nL : Nat} {R : Room} {D : DD} {b : Nat} {σ : Hp} {k n pc : Nat} {lv : List (Option Value)} {st : List Value} {lv' : List (Option Value)} {i : Nat} {v : Nat} (hs : SetAt lv i (.ref v) lv') (pc' : Nat) (hp : pc + 2 = pc') (d : decode cc pc = .ok (.astore i, 2)) (kk : G z cc own nL R D b σ k n pc' lv' (st)) : G z cc own nL R D b σ k n pc lv (.ref v :: st) := by
  subst hp
  exact fun hC H locs ls hH hS hL => lv_astore hC.1 hC.2.1 d hL.1 (hL.lt hs) rfl (fun ls1 h1 => kk hC H locs ls1 hH hS (hL.put hs rfl h1))
theorem g_astore_nN {z : Dy} {cc : ByteArray} {own : String} {nL : Nat} {R : Room} {D : DD} {b : Nat} {σ : Hp} {k n pc : Nat} {lv : List (Option Value)} {st : List Value} {lv' : List (Option Value)} {q : Fin 4} {i : Nat} (hi : (q : Nat) = i) (hs : SetAt lv i .null lv') (pc' : Nat) (hp : pc + 1 = pc') (d : decode cc pc = .ok (.astore_n q, 1)) (kk : G z cc own nL R D b σ k n pc' lv' (st)) : G z cc own nL R D b σ k n pc lv (.null :: st) := by
  subst hp
  exact fun hC H locs ls hH hS hL => lv_astore_nN hC.1 hC.2.1 d hi hL.1 (hL.lt hs) rfl (fun ls1 h1 => kk hC H locs ls1 hH hS (hL.put hs rfl h1))
theorem g_astoreN {z : Dy} {cc : ByteArray} {own : String} {nL : Nat} {R : Room} {D : DD} {b : Nat} {σ : Hp} {k n pc : Nat} {lv : List (Option Value)} {st : List Value} {lv' : List (Option Value)} {i : Nat} (hs : SetAt lv i .null lv') (pc' : Nat) (hp : pc + 2 = pc') (d : decode cc pc = .ok (.astore i, 2)) (kk : G z cc own nL R D b σ k n pc' lv' (st)) : G z cc own nL R D b σ k n pc lv (.null :: st) := by
  subst hp
  exact fun hC H locs ls hH hS hL => lv_astoreN hC.1 hC.2.1 d hL.1 (hL.lt hs) rfl (fun ls1 h1 => kk hC H locs ls1 hH hS (hL.put hs rfl h1))
theorem g_iinc {z : Dy} {cc : ByteArray} {own : String} {nL : Nat} {R : Room} {D : DD} {b : Nat} {σ : Hp} {k n pc : Nat} {lv : List (Option Value)} {st : List Value} {i : Nat} {m : Int} {x v : Int32} (hl : LdAt lv i (.int x)) {lv' : List (Option Value)} (hv : x + Int32.ofInt m = v) (hs : SetAt lv i (.int v) lv') (pc' : Nat) (hp : pc + 3 = pc') (d : decode cc pc = .ok (.iinc i m, 3)) (kk : G z cc own nL R D b σ k n pc' lv' (st)) : G z cc own nL R D b σ k n pc lv (st) := by
  subst hp
  intro hC H locs ls hH hS hL
  obtain ⟨j, hj⟩ := List.getElem?_of_mem ((lvp_mem lv 0 (i, Value.int x)).2 ⟨i, hl, (Nat.zero_add i).symm⟩)
  exact lv_iinc hC.1 hC.2.1 d hL.1 hj hv (hL.lt hs) rfl (fun ls1 h1 => kk hC H locs ls1 hH hS (hL.put hs rfl h1))
theorem g_iadd {z : Dy} {cc : ByteArray} {own : String} {nL : Nat} {R : Room} {D : DD} {b : Nat} {σ : Hp} {k n pc : Nat} {lv : List (Option Value)} {st : List Value} {x y : Int32} (pc' : Nat) (hp : pc + 1 = pc') (d : decode cc pc = .ok (.iadd, 1)) (kk : G z cc own nL R D b σ k n pc' lv (.int (x + y) :: st)) : G z cc own nL R D b σ k n pc lv (.int y :: .int x :: st) := by
  subst hp
  exact fun hC H locs ls hH hS hL => lv_iadd hC.1 hC.2.1 d (kk hC H locs ls hH hS hL)
theorem g_isub {z : Dy} {cc : ByteArray} {own : String} {nL : Nat} {R : Room} {D : DD} {b : Nat} {σ : Hp} {k n pc : Nat} {lv : List (Option Value)} {st : List Value} {x y : Int32} (pc' : Nat) (hp : pc + 1 = pc') (d : decode cc pc = .ok (.isub, 1)) (kk : G z cc own nL R D b σ k n pc' lv (.int (x - y) :: st)) : G z cc own nL R D b σ k n pc lv (.int y :: .int x :: st) := by
  subst hp
  exact fun hC H locs ls hH hS hL => lv_isub hC.1 hC.2.1 d (kk hC H locs ls hH hS hL)
theorem g_imul {z : Dy} {cc : ByteArray} {own : String} {nL : Nat} {R : Room} {D : DD} {b : Nat} {σ : Hp} {k n pc : Nat} {lv : List (Option Value)} {st : List Value} {x y : Int32} (pc' : Nat) (hp : pc + 1 = pc') (d : decode cc pc = .ok (.imul, 1)) (kk : G z cc own nL R D b σ k n pc' lv (.int (x * y) :: st)) : G z cc own nL R D b σ k n pc lv (.int y :: .int x :: st) := by
  subst hp
  exact fun hC H locs ls hH hS hL => lv_imul hC.1 hC.2.1 d (kk hC H locs ls hH hS hL)
theorem g_iand {z : Dy} {cc : ByteArray} {own : String} {nL : Nat} {R : Room} {D : DD} {b : Nat} {σ : Hp} {k n pc : Nat} {lv : List (Option Value)} {st : List Value} {x y : Int32} (pc' : Nat) (hp : pc + 1 = pc') (d : decode cc pc = .ok (.iand, 1)) (kk : G z cc own nL R D b σ k n pc' lv (.int (x &&& y) :: st)) : G z cc own nL R D b σ k n pc lv (.int y :: .int x :: st) := by
  subst hp
  exact fun hC H locs ls hH hS hL => lv_iand hC.1 hC.2.1 d (kk hC H locs ls hH hS hL)
theorem g_ior {z : Dy} {cc : ByteArray} {own : String} {nL : Nat} {R : Room} {D : DD} {b : Nat} {σ : Hp} {k n pc : Nat} {lv : List (Option Value)} {st : List Value} {x y : Int32} (pc' : Nat) (hp : pc + 1 = pc') (d : decode cc pc = .ok (.ior, 1)) (kk : G z cc own nL R D b σ k n pc' lv (.int (x ||| y) :: st)) : G z cc own nL R D b σ k n pc lv (.int y :: .int x :: st) := by
  subst hp
  exact fun hC H locs ls hH hS hL => lv_ior hC.1 hC.2.1 d (kk hC H locs ls hH hS hL)
theorem g_ixor {z : Dy} {cc : ByteArray} {own : String} {nL : Nat} {R : Room} {D : DD} {b : Nat} {σ : Hp} {k n pc : Nat} {lv : List (Option Value)} {st : List Value} {x y : Int32} (pc' : Nat) (hp : pc + 1 = pc') (d : decode cc pc = .ok (.ixor, 1)) (kk : G z cc own nL R D b σ k n pc' lv (.int (x ^^^ y) :: st)) : G z cc own nL R D b σ k n pc lv (.int y :: .int x :: st) := by
  subst hp
  exact fun hC H locs ls hH hS hL => lv_ixor hC.1 hC.2.1 d (kk hC H locs ls hH hS hL)
theorem g_ishl {z : Dy} {cc : ByteArray} {own : String} {nL : Nat} {R : Room} {D : DD} {b : Nat} {σ : Hp} {k n pc : Nat} {lv : List (Option Value)} {st : List Value} {x y : Int32} (pc' : Nat) (hp : pc + 1 = pc') (d : decode cc pc = .ok (.ishl, 1)) (kk : G z cc own nL R D b σ k n pc' lv (.int (x <<< (y &&& 31)) :: st)) : G z cc own nL R D b σ k n pc lv (.int y :: .int x :: st) := by
  subst hp
  exact fun hC H locs ls hH hS hL => lv_ishl hC.1 hC.2.1 d (kk hC H locs ls hH hS hL)
theorem g_ishr {z : Dy} {cc : ByteArray} {own : String} {nL : Nat} {R : Room} {D : DD} {b : Nat} {σ : Hp} {k n pc : Nat} {lv : List (Option Value)} {st : List Value} {x y : Int32} (pc' : Nat) (hp : pc + 1 = pc') (d : decode cc pc = .ok (.ishr, 1)) (kk : G z cc own nL R D b σ k n pc' lv (.int (x >>> (y &&& 31)) :: st)) : G z cc own nL R D b σ k n pc lv (.int y :: .int x :: st) := by
  subst hp
  exact fun hC H locs ls hH hS hL => lv_ishr hC.1 hC.2.1 d (kk hC H locs ls hH hS hL)
theorem g_iushr {z : Dy} {cc : ByteArray} {own : String} {nL : Nat} {R : Room} {D : DD} {b : Nat} {σ : Hp} {k n pc : Nat} {lv : List (Option Value)} {st : List Value} {x y v : Int32} (hv : (x.toUInt32 >>> (y.toUInt32 &&& Int32.toUInt32 31)).toInt32 = v) (pc' : Nat) (hp : pc + 1 = pc') (d : decode cc pc = .ok (.iushr, 1)) (kk : G z cc own nL R D b σ k n pc' lv (.int v :: st)) : G z cc own nL R D b σ k n pc lv (.int y :: .int x :: st) := by
  subst hp
  exact fun hC H locs ls hH hS hL => lv_iushr hC.1 hC.2.1 d hv (kk hC H locs ls hH hS hL)
theorem g_irem {z : Dy} {cc : ByteArray} {own : String} {nL : Nat} {R : Room} {D : DD} {b : Nat} {σ : Hp} {k n pc : Nat} {lv : List (Option Value)} {st : List Value} {x y : Int32} (hne : ¬ y = 0) (pc' : Nat) (hp : pc + 1 = pc') (d : decode cc pc = .ok (.irem, 1)) (kk : G z cc own nL R D b σ k n pc' lv (.int (x - x / y * y) :: st)) : G z cc own nL R D b σ k n pc lv (.int y :: .int x :: st) := by
  subst hp
  exact fun hC H locs ls hH hS hL => lv_irem hC.1 hC.2.1 d hne (kk hC H locs ls hH hS hL)
theorem g_idiv {z : Dy} {cc : ByteArray} {own : String} {nL : Nat} {R : Room} {D : DD} {b : Nat} {σ : Hp} {k n pc : Nat} {lv : List (Option Value)} {st : List Value} {x y : Int32} (hne : ¬ y = 0) (pc' : Nat) (hp : pc + 1 = pc') (d : decode cc pc = .ok (.idiv, 1)) (kk : G z cc own nL R D b σ k n pc' lv (.int (x / y) :: st)) : G z cc own nL R D b σ k n pc lv (.int y :: .int x :: st) := by
  subst hp
  exact fun hC H locs ls hH hS hL => lv_idiv hC.1 hC.2.1 d hne (kk hC H locs ls hH hS hL)
theorem g_ineg {z : Dy} {cc : ByteArray} {own : String} {nL : Nat} {R : Room} {D : DD} {b : Nat} {σ : Hp} {k n pc : Nat} {lv : List (Option Value)} {st : List Value} {x : Int32} (pc' : Nat) (hp : pc + 1 = pc') (d : decode cc pc = .ok (.ineg, 1)) (kk : G z cc own nL R D b σ k n pc' lv (.int (-x) :: st)) : G z cc own nL R D b σ k n pc lv (.int x :: st) := by
  subst hp
  exact fun hC H locs ls hH hS hL => lv_ineg hC.1 hC.2.1 d (kk hC H locs ls hH hS hL)
theorem g_i2b {z : Dy} {cc : ByteArray} {own : String} {nL : Nat} {R : Room} {D : DD} {b : Nat} {σ : Hp} {k n pc : Nat} {lv : List (Option Value)} {st : List Value} {x v : Int32} (hv : x.toInt8.toInt32 = v) (pc' : Nat) (hp : pc + 1 = pc') (d : decode cc pc = .ok (.i2b, 1)) (kk : G z cc own nL R D b σ k n pc' lv (.int v :: st)) : G z cc own nL R D b σ k n pc lv (.int x :: st) := by
  subst hp
  exact fun hC H locs ls hH hS hL => lv_i2b hC.1 hC.2.1 d hv (kk hC H locs ls hH hS hL)
theorem g_dup {z : Dy} {cc : ByteArray} {own : String} {nL : Nat} {R : Room} {D : DD} {b : Nat} {σ : Hp} {k n pc : Nat} {lv : List (Option Value)} {st : List Value} {v : Value} (hv : v.category = 1) (pc' : Nat) (hp : pc + 1 = pc') (d : decode cc pc = .ok (.dup, 1)) (kk : G z cc own nL R D b σ k n pc' lv (v :: v :: st)) : G z cc own nL R D b σ k n pc lv (v :: st) := by
  subst hp
  exact fun hC H locs ls hH hS hL => lv_dup hC.1 hC.2.1 d hv (kk hC H locs ls hH hS hL)
theorem g_pop {z : Dy} {cc : ByteArray} {own : String} {nL : Nat} {R : Room} {D : DD} {b : Nat} {σ : Hp} {k n pc : Nat} {lv : List (Option Value)} {st : List Value} {v : Value} (hv : v.category = 1) (pc' : Nat) (hp : pc + 1 = pc') (d : decode cc pc = .ok (.pop, 1)) (kk : G z cc own nL R D b σ k n pc' lv (st)) : G z cc own nL R D b σ k n pc lv (v :: st) := by
  subst hp
  exact fun hC H locs ls hH hS hL => lv_pop hC.1 hC.2.1 d hv (kk hC H locs ls hH hS hL)
theorem g_dup_x1 {z : Dy} {cc : ByteArray} {own : String} {nL : Nat} {R : Room} {D : DD} {b : Nat} {σ : Hp} {k n pc : Nat} {lv : List (Option Value)} {st : List Value} {v u : Value} (hv : v.category = 1) (hu : u.category = 1) (pc' : Nat) (hp : pc + 1 = pc') (d : decode cc pc = .ok (.dup_x1, 1)) (kk : G z cc own nL R D b σ k n pc' lv (v :: u :: v :: st)) : G z cc own nL R D b σ k n pc lv (v :: u :: st) := by
  subst hp
  exact fun hC H locs ls hH hS hL => lv_dup_x1 hC.1 hC.2.1 d hv hu (kk hC H locs ls hH hS hL)
theorem g_dup_x2 {z : Dy} {cc : ByteArray} {own : String} {nL : Nat} {R : Room} {D : DD} {b : Nat} {σ : Hp} {k n pc : Nat} {lv : List (Option Value)} {st : List Value} {v u x : Value} (hv : v.category = 1) (hu : u.category = 1) (hx : x.category = 1) (pc' : Nat) (hp : pc + 1 = pc') (d : decode cc pc = .ok (.dup_x2, 1)) (kk : G z cc own nL R D b σ k n pc' lv (v :: u :: x :: v :: st)) : G z cc own nL R D b σ k n pc lv (v :: u :: x :: st) := by
  subst hp
  exact fun hC H locs ls hH hS hL => lv_dup_x2 hC.1 hC.2.1 d hv hu hx (kk hC H locs ls hH hS hL)
theorem g_dup2 {z : Dy} {cc : ByteArray} {own : String} {nL : Nat} {R : Room} {D : DD} {b : Nat} {σ : Hp} {k n pc : Nat} {lv : List (Option Value)} {st : List Value} {v u : Value} (hv : v.category = 1) (hu : u.category = 1) (pc' : Nat) (hp : pc + 1 = pc') (d : decode cc pc = .ok (.dup2, 1)) (kk : G z cc own nL R D b σ k n pc' lv (v :: u :: v :: u :: st)) : G z cc own nL R D b σ k n pc lv (v :: u :: st) := by
  subst hp
  exact fun hC H locs ls hH hS hL => lv_dup2_11 hC.1 hC.2.1 d hv hu (kk hC H locs ls hH hS hL)
theorem g_if_eq {z : Dy} {cc : ByteArray} {own : String} {nL : Nat} {R : Room} {D : DD} {b : Nat} {σ : Hp} {k n pc : Nat} {lv : List (Option Value)} {st : List Value} {x : Int32} {off : Int} (tgt pc' : Nat) (hp : pc + 3 = pc') (ht : (pc : Int) + off = (tgt : Int)) (d : decode cc pc = .ok (.ifCond .eq off, 3)) (kt : x = 0 → G z cc own nL R D b σ k n tgt lv (st)) (kf : ¬ x = 0 → G z cc own nL R D b σ k n pc' lv (st)) : G z cc own nL R D b σ k n pc lv (.int x :: st) := by
  subst hp
  exact fun hC H locs ls hH hS hL => lv_if_eq hC.1 hC.2.1 d ht (fun h => kt (h) hC H locs ls hH hS hL) (fun h => kf (h) hC H locs ls hH hS hL)
theorem g_if_ne {z : Dy} {cc : ByteArray} {own : String} {nL : Nat} {R : Room} {D : DD} {b : Nat} {σ : Hp} {k n pc : Nat} {lv : List (Option Value)} {st : List Value} {x : Int32} {off : Int} (tgt pc' : Nat) (hp : pc + 3 = pc') (ht : (pc : Int) + off = (tgt : Int)) (d : decode cc pc = .ok (.ifCond .ne off, 3)) (kt : ¬ x = 0 → G z cc own nL R D b σ k n tgt lv (st)) (kf : x = 0 → G z cc own nL R D b σ k n pc' lv (st)) : G z cc own nL R D b σ k n pc lv (.int x :: st) := by
  subst hp
  exact fun hC H locs ls hH hS hL => lv_if_ne hC.1 hC.2.1 d ht (fun h => kt (h) hC H locs ls hH hS hL) (fun h => kf (h) hC H locs ls hH hS hL)
theorem g_if_lt {z : Dy} {cc : ByteArray} {own : String} {nL : Nat} {R : Room} {D : DD} {b : Nat} {σ : Hp} {k n pc : Nat} {lv : List (Option Value)} {st : List Value} {x : Int32} {off : Int} (tgt pc' : Nat) (hp : pc + 3 = pc') (ht : (pc : Int) + off = (tgt : Int)) (d : decode cc pc = .ok (.ifCond .lt off, 3)) (kt : x < 0 → G z cc own nL R D b σ k n tgt lv (st)) (kf : ¬ x < 0 → G z cc own nL R D b σ k n pc' lv (st)) : G z cc own nL R D b σ k n pc lv (.int x :: st) := by
  subst hp
  exact fun hC H locs ls hH hS hL => lv_if_lt hC.1 hC.2.1 d ht (fun h => kt (h) hC H locs ls hH hS hL) (fun h => kf (h) hC H locs ls hH hS hL)
theorem g_if_ge {z : Dy} {cc : ByteArray} {own : String} {nL : Nat} {R : Room} {D : DD} {b : Nat} {σ : Hp} {k n pc : Nat} {lv : List (Option Value)} {st : List Value} {x : Int32} {off : Int} (tgt pc' : Nat) (hp : pc + 3 = pc') (ht : (pc : Int) + off = (tgt : Int)) (d : decode cc pc = .ok (.ifCond .ge off, 3)) (kt : ¬ x < 0 → G z cc own nL R D b σ k n tgt lv (st)) (kf : x < 0 → G z cc own nL R D b σ k n pc' lv (st)) : G z cc own nL R D b σ k n pc lv (.int x :: st) := by
  subst hp
  exact fun hC H locs ls hH hS hL => lv_if_ge hC.1 hC.2.1 d ht (fun h => kt (Int32.not_lt.mpr h) hC H locs ls hH hS hL) (fun h => kf (Int32.not_le.mp h) hC H locs ls hH hS hL)
theorem g_if_gt {z : Dy} {cc : ByteArray} {own : String} {nL : Nat} {R : Room} {D : DD} {b : Nat} {σ : Hp} {k n pc : Nat} {lv : List (Option Value)} {st : List Value} {x : Int32} {off : Int} (tgt pc' : Nat) (hp : pc + 3 = pc') (ht : (pc : Int) + off = (tgt : Int)) (d : decode cc pc = .ok (.ifCond .gt off, 3)) (kt : 0 < x → G z cc own nL R D b σ k n tgt lv (st)) (kf : ¬ 0 < x → G z cc own nL R D b σ k n pc' lv (st)) : G z cc own nL R D b σ k n pc lv (.int x :: st) := by
  subst hp
  exact fun hC H locs ls hH hS hL => lv_if_gt hC.1 hC.2.1 d ht (fun h => kt (h) hC H locs ls hH hS hL) (fun h => kf (h) hC H locs ls hH hS hL)
theorem g_if_le {z : Dy} {cc : ByteArray} {own : String} {nL : Nat} {R : Room} {D : DD} {b : Nat} {σ : Hp} {k n pc : Nat} {lv : List (Option Value)} {st : List Value} {x : Int32} {off : Int} (tgt pc' : Nat) (hp : pc + 3 = pc') (ht : (pc : Int) + off = (tgt : Int)) (d : decode cc pc = .ok (.ifCond .le off, 3)) (kt : ¬ 0 < x → G z cc own nL R D b σ k n tgt lv (st)) (kf : 0 < x → G z cc own nL R D b σ k n pc' lv (st)) : G z cc own nL R D b σ k n pc lv (.int x :: st) := by
  subst hp
  exact fun hC H locs ls hH hS hL => lv_if_le hC.1 hC.2.1 d ht (fun h => kt (Int32.not_lt.mpr h) hC H locs ls hH hS hL) (fun h => kf (Int32.not_le.mp h) hC H locs ls hH hS hL)
theorem g_icmp_eq {z : Dy} {cc : ByteArray} {own : String} {nL : Nat} {R : Room} {D : DD} {b : Nat} {σ : Hp} {k n pc : Nat} {lv : List (Option Value)} {st : List Value} {x y : Int32} {off : Int} (tgt pc' : Nat) (hp : pc + 3 = pc') (ht : (pc : Int) + off = (tgt : Int)) (d : decode cc pc = .ok (.if_icmp .eq off, 3)) (kt : x = y → G z cc own nL R D b σ k n tgt lv (st)) (kf : ¬ x = y → G z cc own nL R D b σ k n pc' lv (st)) : G z cc own nL R D b σ k n pc lv (.int y :: .int x :: st) := by
  subst hp
  exact fun hC H locs ls hH hS hL => lv_icmp_eq hC.1 hC.2.1 d ht (fun h => kt (h) hC H locs ls hH hS hL) (fun h => kf (h) hC H locs ls hH hS hL)
theorem g_icmp_ne {z : Dy} {cc : ByteArray} {own : String} {nL : Nat} {R : Room} {D : DD} {b : Nat} {σ : Hp} {k n pc : Nat} {lv : List (Option Value)} {st : List Value} {x y : Int32} {off : Int} (tgt pc' : Nat) (hp : pc + 3 = pc') (ht : (pc : Int) + off = (tgt : Int)) (d : decode cc pc = .ok (.if_icmp .ne off, 3)) (kt : ¬ x = y → G z cc own nL R D b σ k n tgt lv (st)) (kf : x = y → G z cc own nL R D b σ k n pc' lv (st)) : G z cc own nL R D b σ k n pc lv (.int y :: .int x :: st) := by
  subst hp
  exact fun hC H locs ls hH hS hL => lv_icmp_ne hC.1 hC.2.1 d ht (fun h => kt (h) hC H locs ls hH hS hL) (fun h => kf (h) hC H locs ls hH hS hL)
theorem g_icmp_lt {z : Dy} {cc : ByteArray} {own : String} {nL : Nat} {R : Room} {D : DD} {b : Nat} {σ : Hp} {k n pc : Nat} {lv : List (Option Value)} {st : List Value} {x y : Int32} {off : Int} (tgt pc' : Nat) (hp : pc + 3 = pc') (ht : (pc : Int) + off = (tgt : Int)) (d : decode cc pc = .ok (.if_icmp .lt off, 3)) (kt : x < y → G z cc own nL R D b σ k n tgt lv (st)) (kf : ¬ x < y → G z cc own nL R D b σ k n pc' lv (st)) : G z cc own nL R D b σ k n pc lv (.int y :: .int x :: st) := by
  subst hp
  exact fun hC H locs ls hH hS hL => lv_icmp_lt hC.1 hC.2.1 d ht (fun h => kt (h) hC H locs ls hH hS hL) (fun h => kf (h) hC H locs ls hH hS hL)
theorem g_icmp_ge {z : Dy} {cc : ByteArray} {own : String} {nL : Nat} {R : Room} {D : DD} {b : Nat} {σ : Hp} {k n pc : Nat} {lv : List (Option Value)} {st : List Value} {x y : Int32} {off : Int} (tgt pc' : Nat) (hp : pc + 3 = pc') (ht : (pc : Int) + off = (tgt : Int)) (d : decode cc pc = .ok (.if_icmp .ge off, 3)) (kt : ¬ x < y → G z cc own nL R D b σ k n tgt lv (st)) (kf : x < y → G z cc own nL R D b σ k n pc' lv (st)) : G z cc own nL R D b σ k n pc lv (.int y :: .int x :: st) := by
  subst hp
  exact fun hC H locs ls hH hS hL => lv_icmp_ge hC.1 hC.2.1 d ht (fun h => kt (Int32.not_lt.mpr h) hC H locs ls hH hS hL) (fun h => kf (Int32.not_le.mp h) hC H locs ls hH hS hL)
theorem g_icmp_gt {z : Dy} {cc : ByteArray} {own : String} {nL : Nat} {R : Room} {D : DD} {b : Nat} {σ : Hp} {k n pc : Nat} {lv : List (Option Value)} {st : List Value} {x y : Int32} {off : Int} (tgt pc' : Nat) (hp : pc + 3 = pc') (ht : (pc : Int) + off = (tgt : Int)) (d : decode cc pc = .ok (.if_icmp .gt off, 3)) (kt : y < x → G z cc own nL R D b σ k n tgt lv (st)) (kf : ¬ y < x → G z cc own nL R D b σ k n pc' lv (st)) : G z cc own nL R D b σ k n pc lv (.int y :: .int x :: st) := by
  subst hp
  exact fun hC H locs ls hH hS hL => lv_icmp_gt hC.1 hC.2.1 d ht (fun h => kt (h) hC H locs ls hH hS hL) (fun h => kf (h) hC H locs ls hH hS hL)
theorem g_icmp_le {z : Dy} {cc : ByteArray} {own : String} {nL : Nat} {R : Room} {D : DD} {b : Nat} {σ : Hp} {k n pc : Nat} {lv : List (Option Value)} {st : List Value} {x y : Int32} {off : Int} (tgt pc' : Nat) (hp : pc + 3 = pc') (ht : (pc : Int) + off = (tgt : Int)) (d : decode cc pc = .ok (.if_icmp .le off, 3)) (kt : ¬ y < x → G z cc own nL R D b σ k n tgt lv (st)) (kf : y < x → G z cc own nL R D b σ k n pc' lv (st)) : G z cc own nL R D b σ k n pc lv (.int y :: .int x :: st) := by
  subst hp
  exact fun hC H locs ls hH hS hL => lv_icmp_le hC.1 hC.2.1 d ht (fun h => kt (Int32.not_lt.mpr h) hC H locs ls hH hS hL) (fun h => kf (Int32.not_le.mp h) hC H locs ls hH hS hL)
theorem g_acmp_eq {z : Dy} {cc : ByteArray} {own : String} {nL : Nat} {R : Room} {D : DD} {b : Nat} {σ : Hp} {k n pc : Nat} {lv : List (Option Value)} {st : List Value} {rx ry : Option Nat} {off : Int} (tgt pc' : Nat) (hp : pc + 3 = pc') (ht : (pc : Int) + off = (tgt : Int)) (d : decode cc pc = .ok (.if_acmp .eq off, 3)) (kt : rx = ry → G z cc own nL R D b σ k n tgt lv (st)) (kf : ¬ rx = ry → G z cc own nL R D b σ k n pc' lv (st)) : G z cc own nL R D b σ k n pc lv (va_rf ry :: va_rf rx :: st) := by
  subst hp
  exact fun hC H locs ls hH hS hL => lv_acmp_eq hC.1 hC.2.1 d ht (fun h => kt h hC H locs ls hH hS hL) (fun h => kf h hC H locs ls hH hS hL)
theorem g_acmp_ne {z : Dy} {cc : ByteArray} {own : String} {nL : Nat} {R : Room} {D : DD} {b : Nat} {σ : Hp} {k n pc : Nat} {lv : List (Option Value)} {st : List Value} {rx ry : Option Nat} {off : Int} (tgt pc' : Nat) (hp : pc + 3 = pc') (ht : (pc : Int) + off = (tgt : Int)) (d : decode cc pc = .ok (.if_acmp .ne off, 3)) (kt : ¬ rx = ry → G z cc own nL R D b σ k n tgt lv (st)) (kf : rx = ry → G z cc own nL R D b σ k n pc' lv (st)) : G z cc own nL R D b σ k n pc lv (va_rf ry :: va_rf rx :: st) := by
  subst hp
  exact fun hC H locs ls hH hS hL => lv_acmp_ne hC.1 hC.2.1 d ht (fun h => kt h hC H locs ls hH hS hL) (fun h => kf h hC H locs ls hH hS hL)
theorem g_goto {z : Dy} {cc : ByteArray} {own : String} {nL : Nat} {R : Room} {D : DD} {b : Nat} {σ : Hp} {k n pc : Nat} {lv : List (Option Value)} {st : List Value} {off : Int} (tgt : Nat) (ht : (pc : Int) + off = (tgt : Int)) (d : decode cc pc = .ok (.goto off, 3)) (kk : G z cc own nL R D b σ k n tgt lv (st)) : G z cc own nL R D b σ k n pc lv (st) :=
  fun hC H locs ls hH hS hL => lv_goto hC.1 hC.2.1 d ht (kk hC H locs ls hH hS hL)
theorem g_ifnull {z : Dy} {cc : ByteArray} {own : String} {nL : Nat} {R : Room} {D : DD} {b : Nat} {σ : Hp} {k n pc : Nat} {lv : List (Option Value)} {st : List Value} {x : Nat} {off : Int} (pc' : Nat) (hp : pc + 3 = pc') (d : decode cc pc = .ok (.ifnull off, 3)) (kk : G z cc own nL R D b σ k n pc' lv (st)) : G z cc own nL R D b σ k n pc lv (.ref x :: st) := by
  subst hp
  exact fun hC H locs ls hH hS hL => lv_ifnull hC.1 hC.2.1 d (kk hC H locs ls hH hS hL)
theorem g_ifnullN {z : Dy} {cc : ByteArray} {own : String} {nL : Nat} {R : Room} {D : DD} {b : Nat} {σ : Hp} {k n pc : Nat} {lv : List (Option Value)} {st : List Value} {off : Int} (tgt : Nat) (ht : (pc : Int) + off = (tgt : Int)) (d : decode cc pc = .ok (.ifnull off, 3)) (kk : G z cc own nL R D b σ k n tgt lv (st)) : G z cc own nL R D b σ k n pc lv (.null :: st) :=
  fun hC H locs ls hH hS hL => lv_ifnullN hC.1 hC.2.1 d ht (kk hC H locs ls hH hS hL)
theorem g_ifnonnull {z : Dy} {cc : ByteArray} {own : String} {nL : Nat} {R : Room} {D : DD} {b : Nat} {σ : Hp} {k n pc : Nat} {lv : List (Option Value)} {st : List Value} {x : Nat} {off : Int} (tgt : Nat) (ht : (pc : Int) + off = (tgt : Int)) (d : decode cc pc = .ok (.ifnonnull off, 3)) (kk : G z cc own nL R D b σ k n tgt lv (st)) : G z cc own nL R D b σ k n pc lv (.ref x :: st) :=
  fun hC H locs ls hH hS hL => lv_ifnonnull hC.1 hC.2.1 d ht (kk hC H locs ls hH hS hL)
theorem g_ifnonnullN {z : Dy} {cc : ByteArray} {own : String} {nL : Nat} {R : Room} {D : DD} {b : Nat} {σ : Hp} {k n pc : Nat} {lv : List (Option Value)} {st : List Value} {off : Int} (pc' : Nat) (hp : pc + 3 = pc') (d : decode cc pc = .ok (.ifnonnull off, 3)) (kk : G z cc own nL R D b σ k n pc' lv (st)) : G z cc own nL R D b σ k n pc lv (.null :: st) := by
  subst hp
  exact fun hC H locs ls hH hS hL => lv_ifnonnullN hC.1 hC.2.1 d (kk hC H locs ls hH hS hL)

/-! ===== rows that read and write the heap ===== -/
theorem gA_ge {b : Nat} : ∀ {H0 : Heap}, b ≤ H0.size → ∀ q : Nat, H0.size ≤ q → gA b q := fun h q hq => Nat.le_trans h hq
theorem g_getf {z : Dy} {cc : ByteArray} {own : String} {nL : Nat} {R : Room} {D : DD} {b : Nat} {σ : Hp} {k n pc : Nat} {lv : List (Option Value)} {st : List Value} {ref C : String} {T : u_T} {N ci index a kf : Nat} {fs : List Value} {v : Value} (he : σ a = some (.inr (ci, fs))) (hv : fs[kf]? = some v) (hc : gcl[ci]? = some (C, T, N)) (hin : ∀ w ∈ u_ws C T N, w ∈ lw_all) (hk : kf < N) (hlink : Cond.fieldLink own index ref (T kf).2.1 (T kf).2.2.1 ∈ lw_all) (href : (T kf).1 = ref) (pc' : Nat) (hp : pc + 3 = pc') (d : decode cc pc = .ok (.getfield index, 3)) (kk : G z cc own nL R D b σ k n pc' lv (v :: st)) : G z cc own nL R D b σ k n pc lv (.ref a :: st) := by
  subst hp
  subst href
  intro hC H locs ls hH hS hL
  obtain ⟨ws, hP, hD, hR⟩ := id hH
  obtain ⟨q, hq⟩ := (hR _ _).1 he
  exact va_get hC.1 hC.2.1 hC.2.2.2.2.1 hin hC.2.2.2.1 hC.2.2.2.2.2.2.1 hP q hq hc kf hk (hC.2.2.2.2.1 _ hlink) (fun x h => h) hv d (kk hC H locs ls hH hS hL)
theorem g_putf {z : Dy} {cc : ByteArray} {own : String} {nL : Nat} {R : Room} {D : DD} {b : Nat} {σ : Hp} {k n pc : Nat} {lv : List (Option Value)} {st : List Value} {ref C : String} {T : u_T} {N ci index a kf : Nat} {fs : List Value} {v : Value} {ty : FieldType} (he : σ a = some (.inr (ci, fs))) (hl : kf < fs.length) (hc : gcl[ci]? = some (C, T, N)) (hin : ∀ w ∈ u_ws C T N, w ∈ lw_all) (ty0 : Nat → FieldType) (hty : ∀ k, k < N → parseFieldDescriptor (T k).2.2.1 = some (ty0 k)) (hnm : ∀ a, a < N → ∀ b, b < N → a ≠ b → (T a).2.1 ≠ (T b).2.1) (hk : kf < N) (hlink : Cond.fieldLink own index ref (T kf).2.1 (T kf).2.2.1 ∈ lw_all) (href : (T kf).1 = ref) (hfin : (T kf).2.2.2 = false) (hd : ty0 kf = ty) (hn : narrow ty v = v) (hfit : fits ty v = true) (pc' : Nat) (hp : pc + 3 = pc') (d : decode cc pc = .ok (.putfield index, 3)) (kk : G z cc own nL R D b (up σ a (.inr (ci, fs.set kf v))) k n pc' lv (st)) : G z cc own nL R D b σ k n pc lv (v :: .ref a :: st) := by
  subst hp
  subst href
  subst hd
  intro hC H locs ls hH hS hL
  obtain ⟨ws, hP, hD, hR⟩ := id hH
  obtain ⟨q, hq⟩ := (hR _ _).1 he
  exact va_put hC.1 hC.2.1 hC.2.2.2.2.1 hin ty0 hty hnm hC.2.2.2.1 hC.2.2.2.2.2.2.1 hP hD hS q hq hc kf hk (hC.2.2.2.2.1 _ hlink) (fun x h => h) hfin (hty kf hk) hn hfit hl d (fun H1 locs1 hP1 hD1 hS1 => kk hC H1 locs1 ls ⟨_, hP1, hD1, hR.set _ hD hq⟩ hS1 hL)
theorem g_putF {z : Dy} {cc : ByteArray} {own : String} {nL : Nat} {R : Room} {D : DD} {b : Nat} {σ : Hp} {k n pc : Nat} {lv : List (Option Value)} {st : List Value} {ref C : String} {T : u_T} {N ci index a kf : Nat} {fs : List Value} {v : Value} {ty : FieldType} (hi : z.me.name = "<init>") (he : σ a = some (.inr (ci, fs))) (hl : kf < fs.length) (hc : gcl[ci]? = some (C, T, N)) (hin : ∀ w ∈ u_ws C T N, w ∈ lw_all) (ty0 : Nat → FieldType) (hty : ∀ k, k < N → parseFieldDescriptor (T k).2.2.1 = some (ty0 k)) (hnm : ∀ a, a < N → ∀ b, b < N → a ≠ b → (T a).2.1 ≠ (T b).2.1) (hk : kf < N) (hlink : Cond.fieldLink own index ref (T kf).2.1 (T kf).2.2.1 ∈ lw_all) (href : (T kf).1 = ref) (hfin : (T kf).2.2.2 = true) (hdecl : (T kf).1 = own) (hd : ty0 kf = ty) (hn : narrow ty v = v) (hfit : fits ty v = true) (pc' : Nat) (hp : pc + 3 = pc') (d : decode cc pc = .ok (.putfield index, 3)) (kk : G z cc own nL R D b (up σ a (.inr (ci, fs.set kf v))) k n pc' lv (st)) : G z cc own nL R D b σ k n pc lv (v :: .ref a :: st) := by
  subst hp
  subst href
  subst hd
  intro hC H locs ls hH hS hL
  obtain ⟨ws, hP, hD, hR⟩ := id hH
  obtain ⟨q, hq⟩ := (hR _ _).1 he
  exact va_putF hC.1 hC.2.1 hC.2.2.2.2.1 hin ty0 hty hnm hC.2.2.2.1 hC.2.2.2.2.2.2.1 hP hD hS q hq hc kf hk (hC.2.2.2.2.1 _ hlink) (fun x h => h) hfin hi hdecl (hty kf hk) hn hfit hl d (fun H1 locs1 hP1 hD1 hS1 => kk hC H1 locs1 ls ⟨_, hP1, hD1, hR.set _ hD hq⟩ hS1 hL)
theorem g_getfN {z : Dy} {cc : ByteArray} {own : String} {nL : Nat} {R : Room} {D : DD} {b : Nat} {σ : Hp} {k n pc : Nat} {lv : List (Option Value)} {st : List Value} {ref C host : String} {T : u_T} {N ci index a kf : Nat} {fs : List Value} {v : Value} (he : σ a = some (.inr (ci, fs))) (hv : fs[kf]? = some v) (hc : gcl[ci]? = some (C, T, N)) (hin : ∀ w ∈ u_ws C T N, w ∈ lw_all) (hk : kf < N) (hlink : Cond.fieldLinkNest own index ref (T kf).2.1 (T kf).2.2.1 host ∈ lw_tbl) (href : (T kf).1 = ref) (pc' : Nat) (hp : pc + 3 = pc') (d : decode cc pc = .ok (.getfield index, 3)) (kk : G z cc own nL R D b σ k n pc' lv (v :: st)) : G z cc own nL R D b σ k n pc lv (.ref a :: st) := by
  subst hp
  subst href
  intro hC H locs ls hH hS hL
  obtain ⟨ws, hP, hD, hR⟩ := id hH
  obtain ⟨q, hq⟩ := (hR _ _).1 he
  exact va_getN hC.1 hC.2.1 hC.2.2.2.2.1 hin hC.2.2.2.1 hC.2.2.2.2.2.2.1 hP q hq hc kf hk (va_Nw.use rfl (hC.2.2.2.2.2.2.2.2.1 _ hlink rfl)) (fun x h => h) hv d (kk hC H locs ls hH hS hL)
theorem g_putfN {z : Dy} {cc : ByteArray} {own : String} {nL : Nat} {R : Room} {D : DD} {b : Nat} {σ : Hp} {k n pc : Nat} {lv : List (Option Value)} {st : List Value} {ref C host : String} {T : u_T} {N ci index a kf : Nat} {fs : List Value} {v : Value} {ty : FieldType} (he : σ a = some (.inr (ci, fs))) (hl : kf < fs.length) (hc : gcl[ci]? = some (C, T, N)) (hin : ∀ w ∈ u_ws C T N, w ∈ lw_all) (ty0 : Nat → FieldType) (hty : ∀ k, k < N → parseFieldDescriptor (T k).2.2.1 = some (ty0 k)) (hnm : ∀ a, a < N → ∀ b, b < N → a ≠ b → (T a).2.1 ≠ (T b).2.1) (hk : kf < N) (hlink : Cond.fieldLinkNest own index ref (T kf).2.1 (T kf).2.2.1 host ∈ lw_tbl) (href : (T kf).1 = ref) (hfin : (T kf).2.2.2 = false) (hd : ty0 kf = ty) (hn : narrow ty v = v) (hfit : fits ty v = true) (pc' : Nat) (hp : pc + 3 = pc') (d : decode cc pc = .ok (.putfield index, 3)) (kk : G z cc own nL R D b (up σ a (.inr (ci, fs.set kf v))) k n pc' lv (st)) : G z cc own nL R D b σ k n pc lv (v :: .ref a :: st) := by
  subst hp
  subst href
  subst hd
  intro hC H locs ls hH hS hL
  obtain ⟨ws, hP, hD, hR⟩ := id hH
  obtain ⟨q, hq⟩ := (hR _ _).1 he
  exact va_putN hC.1 hC.2.1 hC.2.2.2.2.1 hin ty0 hty hnm hC.2.2.2.1 hC.2.2.2.2.2.2.1 hP hD hS q hq hc kf hk (va_Nw.use rfl (hC.2.2.2.2.2.2.2.2.1 _ hlink rfl)) (fun x h => h) hfin (hty kf hk) hn hfit hl d (fun H1 locs1 hP1 hD1 hS1 => kk hC H1 locs1 ls ⟨_, hP1, hD1, hR.set _ hD hq⟩ hS1 hL)
theorem vin_of {i : Int32} {j N : Nat} (hi : i = nI j) (hj : j < N) (hN : N < 2 ^ 31) : vp_in i N ∧ i.toNatClampNeg = j := by
  subst hi
  exact ⟨vp_in_nI hj hN, nI_clamp (Nat.lt_trans hj hN)⟩
theorem g_iald {z : Dy} {cc : ByteArray} {own : String} {nL : Nat} {R : Room} {D : DD} {b : Nat} {σ : Hp} {k n pc : Nat} {lv : List (Option Value)} {st : List Value} {a j N : Nat} {i : Int32} {f : Nat → Int32} (he : σ a = some (oI D N f)) (hi : i = nI j) (hj : j < N) (hN : N < 2 ^ 31) (pc' : Nat) (hp : pc + 1 = pc') (d : decode cc pc = .ok (.iaload, 1)) (kk : G z cc own nL R D b σ k n pc' lv (.int (f j) :: st)) : G z cc own nL R D b σ k n pc lv (.int i :: .ref a :: st) := by
  subst hp
  obtain ⟨h1, h2⟩ := vin_of hi hj hN
  subst h2
  intro hC H locs ls hH hS hL
  obtain ⟨ws, hP, hD, hR⟩ := id hH
  obtain ⟨q, hq⟩ := (hR _ _).1 he
  exact va_iald hC.1 hC.2.1 hC.2.2.2.2.2.2.1 hP q 0 hq rfl h1 d (kk hC H locs ls hH hS hL)
theorem g_zald {z : Dy} {cc : ByteArray} {own : String} {nL : Nat} {R : Room} {D : DD} {b : Nat} {σ : Hp} {k n pc : Nat} {lv : List (Option Value)} {st : List Value} {a j N : Nat} {i : Int32} {f : Nat → Int32} (he : σ a = some (oZ D N f)) (hi : i = nI j) (hj : j < N) (hN : N < 2 ^ 31) (pc' : Nat) (hp : pc + 1 = pc') (d : decode cc pc = .ok (.baload, 1)) (kk : G z cc own nL R D b σ k n pc' lv (.int (f j) :: st)) : G z cc own nL R D b σ k n pc lv (.int i :: .ref a :: st) := by
  subst hp
  obtain ⟨h1, h2⟩ := vin_of hi hj hN
  subst h2
  intro hC H locs ls hH hS hL
  obtain ⟨ws, hP, hD, hR⟩ := id hH
  obtain ⟨q, hq⟩ := (hR _ _).1 he
  exact va_zald hC.1 hC.2.1 hC.2.2.2.2.2.2.1 hP q 1 hq rfl h1 d (kk hC H locs ls hH hS hL)
theorem g_bald {z : Dy} {cc : ByteArray} {own : String} {nL : Nat} {R : Room} {D : DD} {b : Nat} {σ : Hp} {k n pc : Nat} {lv : List (Option Value)} {st : List Value} {a j N : Nat} {i : Int32} {f : Nat → Int32} (he : σ a = some (oB D N f)) (hi : i = nI j) (hj : j < N) (hN : N < 2 ^ 31) (pc' : Nat) (hp : pc + 1 = pc') (d : decode cc pc = .ok (.baload, 1)) (kk : G z cc own nL R D b σ k n pc' lv (.int (f j) :: st)) : G z cc own nL R D b σ k n pc lv (.int i :: .ref a :: st) := by
  subst hp
  obtain ⟨h1, h2⟩ := vin_of hi hj hN
  subst h2
  intro hC H locs ls hH hS hL
  obtain ⟨ws, hP, hD, hR⟩ := id hH
  obtain ⟨q, hq⟩ := (hR _ _).1 he
  exact va_bald hC.1 hC.2.1 hC.2.2.2.2.2.2.1 hP q 2 hq rfl h1 d (kk hC H locs ls hH hS hL)
theorem g_lald {z : Dy} {cc : ByteArray} {own : String} {nL : Nat} {R : Room} {D : DD} {b : Nat} {σ : Hp} {k n pc : Nat} {lv : List (Option Value)} {st : List Value} {a j N : Nat} {i : Int32} {f : Nat → Int64} (he : σ a = some (oL D N f)) (hi : i = nI j) (hj : j < N) (hN : N < 2 ^ 31) (pc' : Nat) (hp : pc + 1 = pc') (d : decode cc pc = .ok (.laload, 1)) (kk : G z cc own nL R D b σ k n pc' lv (.long (f j) :: st)) : G z cc own nL R D b σ k n pc lv (.int i :: .ref a :: st) := by
  subst hp
  obtain ⟨h1, h2⟩ := vin_of hi hj hN
  subst h2
  intro hC H locs ls hH hS hL
  obtain ⟨ws, hP, hD, hR⟩ := id hH
  obtain ⟨q, hq⟩ := (hR _ _).1 he
  exact va_lald hC.1 hC.2.1 hC.2.2.2.2.2.2.1 hP q 3 hq rfl h1 d (kk hC H locs ls hH hS hL)
theorem g_aaldO {z : Dy} {cc : ByteArray} {own : String} {nL : Nat} {R : Room} {D : DD} {b : Nat} {σ : Hp} {k n pc : Nat} {lv : List (Option Value)} {st : List Value} {a j N : Nat} {i : Int32} {f : Nat → Option Nat} (he : σ a = some (oO D N f)) (hi : i = nI j) (hj : j < N) (hN : N < 2 ^ 31) (pc' : Nat) (hp : pc + 1 = pc') (d : decode cc pc = .ok (.aaload, 1)) (kk : G z cc own nL R D b σ k n pc' lv (va_rf (f j) :: st)) : G z cc own nL R D b σ k n pc lv (.int i :: .ref a :: st) := by
  subst hp
  obtain ⟨h1, h2⟩ := vin_of hi hj hN
  subst h2
  intro hC H locs ls hH hS hL
  obtain ⟨ws, hP, hD, hR⟩ := id hH
  obtain ⟨q, hq⟩ := (hR _ _).1 he
  exact va_aldq hC.1 hC.2.1 hC.2.2.2.2.2.2.1 hP q 4 hq rfl h1 d (kk hC H locs ls hH hS hL)
theorem g_aaldX {z : Dy} {cc : ByteArray} {own : String} {nL : Nat} {R : Room} {D : DD} {b : Nat} {σ : Hp} {k n pc : Nat} {lv : List (Option Value)} {st : List Value} {a j N : Nat} {i : Int32} {f : Nat → Option Nat} (he : σ a = some (oX D N f)) (hi : i = nI j) (hj : j < N) (hN : N < 2 ^ 31) (pc' : Nat) (hp : pc + 1 = pc') (d : decode cc pc = .ok (.aaload, 1)) (kk : G z cc own nL R D b σ k n pc' lv (va_rf (f j) :: st)) : G z cc own nL R D b σ k n pc lv (.int i :: .ref a :: st) := by
  subst hp
  obtain ⟨h1, h2⟩ := vin_of hi hj hN
  subst h2
  intro hC H locs ls hH hS hL
  obtain ⟨ws, hP, hD, hR⟩ := id hH
  obtain ⟨q, hq⟩ := (hR _ _).1 he
  exact va_aldq hC.1 hC.2.1 hC.2.2.2.2.2.2.1 hP q 5 hq rfl h1 d (kk hC H locs ls hH hS hL)
theorem g_aaldS {z : Dy} {cc : ByteArray} {own : String} {nL : Nat} {R : Room} {D : DD} {b : Nat} {σ : Hp} {k n pc : Nat} {lv : List (Option Value)} {st : List Value} {a j N : Nat} {i : Int32} {f : Nat → Option Nat} (he : σ a = some (oS D N f)) (hi : i = nI j) (hj : j < N) (hN : N < 2 ^ 31) (pc' : Nat) (hp : pc + 1 = pc') (d : decode cc pc = .ok (.aaload, 1)) (kk : G z cc own nL R D b σ k n pc' lv (va_rf (f j) :: st)) : G z cc own nL R D b σ k n pc lv (.int i :: .ref a :: st) := by
  subst hp
  obtain ⟨h1, h2⟩ := vin_of hi hj hN
  subst h2
  intro hC H locs ls hH hS hL
  obtain ⟨ws, hP, hD, hR⟩ := id hH
  obtain ⟨q, hq⟩ := (hR _ _).1 he
  exact va_aldq hC.1 hC.2.1 hC.2.2.2.2.2.2.1 hP q 6 hq rfl h1 d (kk hC H locs ls hH hS hL)
theorem g_iast {z : Dy} {cc : ByteArray} {own : String} {nL : Nat} {R : Room} {D : DD} {b : Nat} {σ : Hp} {k n pc : Nat} {lv : List (Option Value)} {st : List Value} {a j N : Nat} {i : Int32} {f : Nat → Int32} {x : Int32} (he : σ a = some (oI D N f)) (hi : i = nI j) (hj : j < N) (hN : N < 2 ^ 31) (pc' : Nat) (hp : pc + 1 = pc') (d : decode cc pc = .ok (.iastore, 1)) (kk : G z cc own nL R D b (up σ a (oI D N (upd f j x))) k n pc' lv (st)) : G z cc own nL R D b σ k n pc lv (.int x :: .int i :: .ref a :: st) := by
  subst hp
  obtain ⟨h1, h2⟩ := vin_of hi hj hN
  subst h2
  intro hC H locs ls hH hS hL
  obtain ⟨ws, hP, hD, hR⟩ := id hH
  obtain ⟨q, hq⟩ := (hR _ _).1 he
  exact va_iast hC.1 hC.2.1 hC.2.2.2.2.2.2.1 hP hD hS q 0 hq rfl h1 d (fun H1 locs1 hP1 hD1 hS1 => kk hC H1 locs1 ls ⟨_, hP1, hD1, hR.set _ hD hq⟩ hS1 hL)
theorem g_zast {z : Dy} {cc : ByteArray} {own : String} {nL : Nat} {R : Room} {D : DD} {b : Nat} {σ : Hp} {k n pc : Nat} {lv : List (Option Value)} {st : List Value} {a j N : Nat} {i : Int32} {f : Nat → Int32} {x : Int32} (he : σ a = some (oZ D N f)) (hi : i = nI j) (hj : j < N) (hN : N < 2 ^ 31) (pc' : Nat) (hp : pc + 1 = pc') (d : decode cc pc = .ok (.bastore, 1)) (kk : G z cc own nL R D b (up σ a (oZ D N (upd f j (vp_nar .boolean x)))) k n pc' lv (st)) : G z cc own nL R D b σ k n pc lv (.int x :: .int i :: .ref a :: st) := by
  subst hp
  obtain ⟨h1, h2⟩ := vin_of hi hj hN
  subst h2
  intro hC H locs ls hH hS hL
  obtain ⟨ws, hP, hD, hR⟩ := id hH
  obtain ⟨q, hq⟩ := (hR _ _).1 he
  exact va_zast hC.1 hC.2.1 hC.2.2.2.2.2.2.1 hP hD hS q 1 hq rfl h1 d (fun H1 locs1 hP1 hD1 hS1 => kk hC H1 locs1 ls ⟨_, hP1, hD1, hR.set _ hD hq⟩ hS1 hL)
theorem g_bast {z : Dy} {cc : ByteArray} {own : String} {nL : Nat} {R : Room} {D : DD} {b : Nat} {σ : Hp} {k n pc : Nat} {lv : List (Option Value)} {st : List Value} {a j N : Nat} {i : Int32} {f : Nat → Int32} {x : Int32} (he : σ a = some (oB D N f)) (hi : i = nI j) (hj : j < N) (hN : N < 2 ^ 31) (pc' : Nat) (hp : pc + 1 = pc') (d : decode cc pc = .ok (.bastore, 1)) (kk : G z cc own nL R D b (up σ a (oB D N (upd f j (vp_nar .byte x)))) k n pc' lv (st)) : G z cc own nL R D b σ k n pc lv (.int x :: .int i :: .ref a :: st) := by
  subst hp
  obtain ⟨h1, h2⟩ := vin_of hi hj hN
  subst h2
  intro hC H locs ls hH hS hL
  obtain ⟨ws, hP, hD, hR⟩ := id hH
  obtain ⟨q, hq⟩ := (hR _ _).1 he
  exact va_bast hC.1 hC.2.1 hC.2.2.2.2.2.2.1 hP hD hS q 2 hq rfl h1 d (fun H1 locs1 hP1 hD1 hS1 => kk hC H1 locs1 ls ⟨_, hP1, hD1, hR.set _ hD hq⟩ hS1 hL)
theorem g_last {z : Dy} {cc : ByteArray} {own : String} {nL : Nat} {R : Room} {D : DD} {b : Nat} {σ : Hp} {k n pc : Nat} {lv : List (Option Value)} {st : List Value} {a j N : Nat} {i : Int32} {f : Nat → Int64} {x : Int64} (he : σ a = some (oL D N f)) (hi : i = nI j) (hj : j < N) (hN : N < 2 ^ 31) (pc' : Nat) (hp : pc + 1 = pc') (d : decode cc pc = .ok (.lastore, 1)) (kk : G z cc own nL R D b (up σ a (oL D N (vp_updL f j x))) k n pc' lv (st)) : G z cc own nL R D b σ k n pc lv (.long x :: .int i :: .ref a :: st) := by
  subst hp
  obtain ⟨h1, h2⟩ := vin_of hi hj hN
  subst h2
  intro hC H locs ls hH hS hL
  obtain ⟨ws, hP, hD, hR⟩ := id hH
  obtain ⟨q, hq⟩ := (hR _ _).1 he
  exact va_last hC.1 hC.2.1 hC.2.2.2.2.2.2.1 hP hD hS q 3 hq rfl h1 d (fun H1 locs1 hP1 hD1 hS1 => kk hC H1 locs1 ls ⟨_, hP1, hD1, hR.set _ hD hq⟩ hS1 hL)
theorem g_aastON {z : Dy} {cc : ByteArray} {own : String} {nL : Nat} {R : Room} {D : DD} {b : Nat} {σ : Hp} {k n pc : Nat} {lv : List (Option Value)} {st : List Value} {a j N : Nat} {i : Int32} {f : Nat → Option Nat}  (he : σ a = some (oO D N f)) (hi : i = nI j) (hj : j < N) (hN : N < 2 ^ 31) (pc' : Nat) (hp : pc + 1 = pc') (d : decode cc pc = .ok (.aastore, 1)) (kk : G z cc own nL R D b (up σ a (oO D N (va_up f j none))) k n pc' lv (st)) : G z cc own nL R D b σ k n pc lv (.null :: .int i :: .ref a :: st) := by
  subst hp
  obtain ⟨h1, h2⟩ := vin_of hi hj hN
  subst h2
  intro hC H locs ls hH hS hL
  obtain ⟨ws, hP, hD, hR⟩ := id hH
  obtain ⟨q, hq⟩ := (hR _ _).1 he
  exact va_astqN hC.1 hC.2.1 hC.2.2.2.2.2.2.1 hP hD hS q 4 hq rfl h1 d (fun H1 locs1 hP1 hD1 hS1 => kk hC H1 locs1 ls ⟨_, hP1, hD1, hR.set _ hD hq⟩ hS1 hL)
theorem g_aastXN {z : Dy} {cc : ByteArray} {own : String} {nL : Nat} {R : Room} {D : DD} {b : Nat} {σ : Hp} {k n pc : Nat} {lv : List (Option Value)} {st : List Value} {a j N : Nat} {i : Int32} {f : Nat → Option Nat}  (he : σ a = some (oX D N f)) (hi : i = nI j) (hj : j < N) (hN : N < 2 ^ 31) (pc' : Nat) (hp : pc + 1 = pc') (d : decode cc pc = .ok (.aastore, 1)) (kk : G z cc own nL R D b (up σ a (oX D N (va_up f j none))) k n pc' lv (st)) : G z cc own nL R D b σ k n pc lv (.null :: .int i :: .ref a :: st) := by
  subst hp
  obtain ⟨h1, h2⟩ := vin_of hi hj hN
  subst h2
  intro hC H locs ls hH hS hL
  obtain ⟨ws, hP, hD, hR⟩ := id hH
  obtain ⟨q, hq⟩ := (hR _ _).1 he
  exact va_astqN hC.1 hC.2.1 hC.2.2.2.2.2.2.1 hP hD hS q 5 hq rfl h1 d (fun H1 locs1 hP1 hD1 hS1 => kk hC H1 locs1 ls ⟨_, hP1, hD1, hR.set _ hD hq⟩ hS1 hL)
theorem g_aastSN {z : Dy} {cc : ByteArray} {own : String} {nL : Nat} {R : Room} {D : DD} {b : Nat} {σ : Hp} {k n pc : Nat} {lv : List (Option Value)} {st : List Value} {a j N : Nat} {i : Int32} {f : Nat → Option Nat}  (he : σ a = some (oS D N f)) (hi : i = nI j) (hj : j < N) (hN : N < 2 ^ 31) (pc' : Nat) (hp : pc + 1 = pc') (d : decode cc pc = .ok (.aastore, 1)) (kk : G z cc own nL R D b (up σ a (oS D N (va_up f j none))) k n pc' lv (st)) : G z cc own nL R D b σ k n pc lv (.null :: .int i :: .ref a :: st) := by
  subst hp
  obtain ⟨h1, h2⟩ := vin_of hi hj hN
  subst h2
  intro hC H locs ls hH hS hL
  obtain ⟨ws, hP, hD, hR⟩ := id hH
  obtain ⟨q, hq⟩ := (hR _ _).1 he
  exact va_astqN hC.1 hC.2.1 hC.2.2.2.2.2.2.1 hP hD hS q 6 hq rfl h1 d (fun H1 locs1 hP1 hD1 hS1 => kk hC H1 locs1 ls ⟨_, hP1, hD1, hR.set _ hD hq⟩ hS1 hL)
theorem g_aastX {z : Dy} {cc : ByteArray} {own : String} {nL : Nat} {R : Room} {D : DD} {b : Nat} {σ : Hp} {k n pc : Nat} {lv : List (Option Value)} {st : List Value} {a j N v : Nat} {i : Int32} {f : Nat → Option Nat} {vs : List Value} (he : σ a = some (oX D N f)) (hv : σ v = some (.inr (2, vs))) (hi : i = nI j) (hj : j < N) (hN : N < 2 ^ 31) (pc' : Nat) (hp : pc + 1 = pc') (d : decode cc pc = .ok (.aastore, 1)) (kk : G z cc own nL R D b (up σ a (oX D N (va_up f j (some v)))) k n pc' lv (st)) : G z cc own nL R D b σ k n pc lv (.ref v :: .int i :: .ref a :: st) := by
  subst hp
  obtain ⟨h1, h2⟩ := vin_of hi hj hN
  subst h2
  intro hC H locs ls hH hS hL
  obtain ⟨ws, hP, hD, hR⟩ := id hH
  obtain ⟨q, hq⟩ := (hR _ _).1 he
  obtain ⟨q2, hq2⟩ := (hR _ _).1 hv
  exact va_astq hC.1 hC.2.1 hC.2.2.2.2.2.2.1 hP hD hS q 5 q2 2 hq rfl hq2 rfl h1 d (fun H1 locs1 hP1 hD1 hS1 => kk hC H1 locs1 ls ⟨_, hP1, hD1, hR.set _ hD hq⟩ hS1 hL)
theorem g_aastS {z : Dy} {cc : ByteArray} {own : String} {nL : Nat} {R : Room} {D : DD} {b : Nat} {σ : Hp} {k n pc : Nat} {lv : List (Option Value)} {st : List Value} {a j N v : Nat} {i : Int32} {f : Nat → Option Nat} {vs : List Value} (he : σ a = some (oS D N f)) (hv : σ v = some (.inr (3, vs))) (hi : i = nI j) (hj : j < N) (hN : N < 2 ^ 31) (pc' : Nat) (hp : pc + 1 = pc') (d : decode cc pc = .ok (.aastore, 1)) (kk : G z cc own nL R D b (up σ a (oS D N (va_up f j (some v)))) k n pc' lv (st)) : G z cc own nL R D b σ k n pc lv (.ref v :: .int i :: .ref a :: st) := by
  subst hp
  obtain ⟨h1, h2⟩ := vin_of hi hj hN
  subst h2
  intro hC H locs ls hH hS hL
  obtain ⟨ws, hP, hD, hR⟩ := id hH
  obtain ⟨q, hq⟩ := (hR _ _).1 he
  obtain ⟨q2, hq2⟩ := (hR _ _).1 hv
  exact va_astq hC.1 hC.2.1 hC.2.2.2.2.2.2.1 hP hD hS q 6 q2 3 hq rfl hq2 rfl h1 d (fun H1 locs1 hP1 hD1 hS1 => kk hC H1 locs1 ls ⟨_, hP1, hD1, hR.set _ hD hq⟩ hS1 hL)
theorem g_aastO {z : Dy} {cc : ByteArray} {own : String} {nL : Nat} {R : Room} {D : DD} {b : Nat} {σ : Hp} {k n pc : Nat} {lv : List (Option Value)} {st : List Value} {a j N v ci : Nat} {i : Int32} {f : Nat → Option Nat} {vs : List Value} {r : vw_C} (he : σ a = some (oO D N f)) (hv : σ v = some (.inr (ci, vs))) (hc : gcl[ci]? = some r) (hca : Cond.castable r.1 "java/lang/Object" ∈ lw_tbl) (hi : i = nI j) (hj : j < N) (hN : N < 2 ^ 31) (pc' : Nat) (hp : pc + 1 = pc') (d : decode cc pc = .ok (.aastore, 1)) (kk : G z cc own nL R D b (up σ a (oO D N (va_up f j (some v)))) k n pc' lv (st)) : G z cc own nL R D b σ k n pc lv (.ref v :: .int i :: .ref a :: st) := by
  subst hp
  obtain ⟨h1, h2⟩ := vin_of hi hj hN
  subst h2
  intro hC H locs ls hH hS hL
  obtain ⟨ws, hP, hD, hR⟩ := id hH
  obtain ⟨q, hq⟩ := (hR _ _).1 he
  obtain ⟨q2, hq2⟩ := (hR _ _).1 hv
  exact va_astqO hC.1 hC.2.1 hC.2.2.2.2.2.2.1 hP hD hS q 4 q2 ci hq rfl (hC.2.2.2.2.2.2.2.2.1 _ hca rfl) hq2 hc h1 d (fun H1 locs1 hP1 hD1 hS1 => kk hC H1 locs1 ls ⟨_, hP1, hD1, hR.set _ hD hq⟩ hS1 hL)
theorem g_alenI {z : Dy} {cc : ByteArray} {own : String} {nL : Nat} {R : Room} {D : DD} {b : Nat} {σ : Hp} {k n pc : Nat} {lv : List (Option Value)} {st : List Value} {a N : Nat} {f : Nat → Int32} (he : σ a = some (oI D N f)) (pc' : Nat) (hp : pc + 1 = pc') (d : decode cc pc = .ok (.arraylength, 1)) (kk : G z cc own nL R D b σ k n pc' lv (.int (nI N) :: st)) : G z cc own nL R D b σ k n pc lv (.ref a :: st) := by
  subst hp
  intro hC H locs ls hH hS hL
  obtain ⟨ws, hP, hD, hR⟩ := id hH
  obtain ⟨q, hq⟩ := (hR _ _).1 he
  exact va_alen hC.1 hC.2.1 hC.2.2.2.2.2.2.1 hP q 0 hq rfl rfl d (kk hC H locs ls hH hS hL)
theorem g_alenZ {z : Dy} {cc : ByteArray} {own : String} {nL : Nat} {R : Room} {D : DD} {b : Nat} {σ : Hp} {k n pc : Nat} {lv : List (Option Value)} {st : List Value} {a N : Nat} {f : Nat → Int32} (he : σ a = some (oZ D N f)) (pc' : Nat) (hp : pc + 1 = pc') (d : decode cc pc = .ok (.arraylength, 1)) (kk : G z cc own nL R D b σ k n pc' lv (.int (nI N) :: st)) : G z cc own nL R D b σ k n pc lv (.ref a :: st) := by
  subst hp
  intro hC H locs ls hH hS hL
  obtain ⟨ws, hP, hD, hR⟩ := id hH
  obtain ⟨q, hq⟩ := (hR _ _).1 he
  exact va_alen hC.1 hC.2.1 hC.2.2.2.2.2.2.1 hP q 1 hq rfl rfl d (kk hC H locs ls hH hS hL)
theorem g_alenB {z : Dy} {cc : ByteArray} {own : String} {nL : Nat} {R : Room} {D : DD} {b : Nat} {σ : Hp} {k n pc : Nat} {lv : List (Option Value)} {st : List Value} {a N : Nat} {f : Nat → Int32} (he : σ a = some (oB D N f)) (pc' : Nat) (hp : pc + 1 = pc') (d : decode cc pc = .ok (.arraylength, 1)) (kk : G z cc own nL R D b σ k n pc' lv (.int (nI N) :: st)) : G z cc own nL R D b σ k n pc lv (.ref a :: st) := by
  subst hp
  intro hC H locs ls hH hS hL
  obtain ⟨ws, hP, hD, hR⟩ := id hH
  obtain ⟨q, hq⟩ := (hR _ _).1 he
  exact va_alen hC.1 hC.2.1 hC.2.2.2.2.2.2.1 hP q 2 hq rfl rfl d (kk hC H locs ls hH hS hL)
theorem g_alenL {z : Dy} {cc : ByteArray} {own : String} {nL : Nat} {R : Room} {D : DD} {b : Nat} {σ : Hp} {k n pc : Nat} {lv : List (Option Value)} {st : List Value} {a N : Nat} {f : Nat → Int64} (he : σ a = some (oL D N f)) (pc' : Nat) (hp : pc + 1 = pc') (d : decode cc pc = .ok (.arraylength, 1)) (kk : G z cc own nL R D b σ k n pc' lv (.int (nI N) :: st)) : G z cc own nL R D b σ k n pc lv (.ref a :: st) := by
  subst hp
  intro hC H locs ls hH hS hL
  obtain ⟨ws, hP, hD, hR⟩ := id hH
  obtain ⟨q, hq⟩ := (hR _ _).1 he
  exact va_alen hC.1 hC.2.1 hC.2.2.2.2.2.2.1 hP q 3 hq rfl rfl d (kk hC H locs ls hH hS hL)
theorem g_alenO {z : Dy} {cc : ByteArray} {own : String} {nL : Nat} {R : Room} {D : DD} {b : Nat} {σ : Hp} {k n pc : Nat} {lv : List (Option Value)} {st : List Value} {a N : Nat} {f : Nat → Option Nat} (he : σ a = some (oO D N f)) (pc' : Nat) (hp : pc + 1 = pc') (d : decode cc pc = .ok (.arraylength, 1)) (kk : G z cc own nL R D b σ k n pc' lv (.int (nI N) :: st)) : G z cc own nL R D b σ k n pc lv (.ref a :: st) := by
  subst hp
  intro hC H locs ls hH hS hL
  obtain ⟨ws, hP, hD, hR⟩ := id hH
  obtain ⟨q, hq⟩ := (hR _ _).1 he
  exact va_alen hC.1 hC.2.1 hC.2.2.2.2.2.2.1 hP q 4 hq rfl rfl d (kk hC H locs ls hH hS hL)
theorem g_alenX {z : Dy} {cc : ByteArray} {own : String} {nL : Nat} {R : Room} {D : DD} {b : Nat} {σ : Hp} {k n pc : Nat} {lv : List (Option Value)} {st : List Value} {a N : Nat} {f : Nat → Option Nat} (he : σ a = some (oX D N f)) (pc' : Nat) (hp : pc + 1 = pc') (d : decode cc pc = .ok (.arraylength, 1)) (kk : G z cc own nL R D b σ k n pc' lv (.int (nI N) :: st)) : G z cc own nL R D b σ k n pc lv (.ref a :: st) := by
  subst hp
  intro hC H locs ls hH hS hL
  obtain ⟨ws, hP, hD, hR⟩ := id hH
  obtain ⟨q, hq⟩ := (hR _ _).1 he
  exact va_alen hC.1 hC.2.1 hC.2.2.2.2.2.2.1 hP q 5 hq rfl rfl d (kk hC H locs ls hH hS hL)
theorem g_alenS {z : Dy} {cc : ByteArray} {own : String} {nL : Nat} {R : Room} {D : DD} {b : Nat} {σ : Hp} {k n pc : Nat} {lv : List (Option Value)} {st : List Value} {a N : Nat} {f : Nat → Option Nat} (he : σ a = some (oS D N f)) (pc' : Nat) (hp : pc + 1 = pc') (d : decode cc pc = .ok (.arraylength, 1)) (kk : G z cc own nL R D b σ k n pc' lv (.int (nI N) :: st)) : G z cc own nL R D b σ k n pc lv (.ref a :: st) := by
  subst hp
  intro hC H locs ls hH hS hL
  obtain ⟨ws, hP, hD, hR⟩ := id hH
  obtain ⟨q, hq⟩ := (hR _ _).1 he
  exact va_alen hC.1 hC.2.1 hC.2.2.2.2.2.2.1 hP q 6 hq rfl rfl d (kk hC H locs ls hH hS hL)
theorem last_ge {b : Nat} {ws : va_W} {q : Nat} {e : va_E} (h : va_D (fun q => b ≤ q) (ws ++ [(q, e)])) : b ≤ q := h.2 ws.length (q, e) (by rw [List.getElem?_append_right (Nat.le_refl _), Nat.sub_self]; rfl)
theorem g_new {z : Dy} {cc : ByteArray} {own : String} {nL : Nat} {R : Room} {D : DD} {b : Nat} {σ : Hp} {k n pc : Nat} {lv : List (Option Value)} {st : List Value} {C : String} {T : u_T} {N ci index : Nat} {fs : List Value} (k' n' : Nat) (hc : gcl[ci]? = some (C, T, N)) (hin : ∀ w ∈ u_ws C T N, w ∈ lw_all) (ty : Nat → FieldType) (hty : ∀ k, k < N → parseFieldDescriptor (T k).2.2.1 = some (ty k)) (hfs : ∀ j, j < N → defaultValue (ty j) = vp_V fs j) (hcl : Cond.classLink own index C ∈ lw_all) (hinst : Cond.instantiable C N ∈ lw_all) (hini : Cond.initialized C ∈ lw_all) (hk : k + 1 = k') (hn : n + N = n') (hk2 : k' ≤ R.cells) (hn2 : n' ≤ R.slots) (pc' : Nat) (hp : pc + 3 = pc') (d : decode cc pc = .ok (.new index, 3)) (kk : ∀ q : Nat, σ q = none → b ≤ q → G z cc own nL R D b (up σ q (.inr (ci, fs))) k' n' pc' lv (.ref q :: st)) : G z cc own nL R D b σ k n pc lv (st) := by
  subst hp
  subst hk
  subst hn
  intro hC H locs ls hH hS hL
  obtain ⟨ws, hP, hD, hR⟩ := id hH
  exact va_new hC.1 hC.2.1 hC.2.2.2.2.1 hin ty hty hC.2.2.2.1 (hC.2.2.2.2.1 _ hcl) (hC.2.2.2.2.1 _ hinst) (hC.2.2.2.2.1 _ hini) hC.2.2.2.2.2.2.1 hP hD hS (gA_ge hC.2.2.2.2.2.2.2.1) hc hfs hk2 hn2 d (fun q H1 hP1 hD1 hS1 => kk q (hR.fresh hD1) (last_ge hD1) hC H1 locs ls ⟨_, hP1, hD1, hR.push (hR.fresh hD1)⟩ hS1 hL)
theorem va_RA_eq {s : State} {c1 c2 : ClassId} {ty : FieldType} (h1 : va_RA s c1 ty) (h2 : va_RA s c2 ty) : c1 = c2 := by
  cases ty with
  | object C =>
    obtain ⟨k1, m1, a1, a2, a3, a4⟩ := h1
    obtain ⟨k2, m2, b1, b2, b3, b4⟩ := h2
    exact Option.some.inj (a4.symm.trans b4)
  | _ => exact Option.some.inj (Eq.trans (Eq.symm h1) h2)
theorem va_K_last {D : va_G} {cl : List vw_C} {tys : List (ClassId × FieldType)} {cA cB : ClassId} {ty : FieldType} {s : State} (h : va_K D cl (tys ++ [(cA, ty)]) s) {t0 : Nat} (ht : tys[t0]? = some (cB, ty)) : cA = cB := by
  have h1 := (h.2 tys.length (cA, ty) (by rw [List.getElem?_append_right (Nat.le_refl _), Nat.sub_self]; rfl)).2
  have hl := (List.getElem?_eq_some_iff.mp ht).1
  have h2 := (h.2 t0 (cB, ty) (by rw [List.getElem?_append_left hl]; exact ht)).2
  exact va_RA_eq h1 h2
theorem g_newaI {z : Dy} {cc : ByteArray} {own : String} {nL : Nat} {R : Room} {D : DD} {b : Nat} {σ : Hp} {k n pc : Nat} {lv : List (Option Value)} {st : List Value} {m : Int32} {N : Nat} (k' n' : Nat) (harr : Cond.arrayClass .int ∈ lw_all) (hm : m = nI N) (hN : N < 1000) (hk : k + 1 = k') (hn : n + N = n') (hk2 : k' ≤ R.cells) (hn2 : n' ≤ R.slots) (pc' : Nat) (hp : pc + 2 = pc') (d : decode cc pc = .ok (.newarray .int, 2)) (kk : ∀ q : Nat, σ q = none → b ≤ q → G z cc own nL R D b (up σ q (oI D N (fun _ => (0 : Int32)))) k' n' pc' lv (.ref q :: st)) : G z cc own nL R D b σ k n pc lv (.int m :: st) := by
  subst hp
  subst hk
  subst hn
  subst hm
  intro hC H locs ls hH hS hL
  obtain ⟨ws, hP, hD, hR⟩ := id hH
  refine va_newa (atype := .int) (ty := .int) (N' := N) (a0 := (N, .inl (fun _ => (0 : Int32)))) hC.1 hC.2.1 (hC.2.2.2.2.1 _ harr) rfl hC.2.2.2.2.2.2.1 hP hD hS (gA_ge hC.2.2.2.2.2.2.2.1) (fun cA => rfl) (nI_pos (by omega)) (nI_clamp (by omega)) (by show N * 4 ≤ 536870912; omega) hk2 hn2 d (fun q cA H1 hK1 hP1 hD1 hS1 => ?_)
  have hcA : cA = D.2.1 0 := va_K_last hK1 (t0 := 0) rfl
  subst hcA
  exact kk q (hR.fresh hD1) (last_ge hD1) hC H1 locs ls ⟨_, hP1, hD1, hR.push (hR.fresh hD1)⟩ hS1 hL
theorem g_newaZ {z : Dy} {cc : ByteArray} {own : String} {nL : Nat} {R : Room} {D : DD} {b : Nat} {σ : Hp} {k n pc : Nat} {lv : List (Option Value)} {st : List Value} {m : Int32} {N : Nat} (k' n' : Nat) (harr : Cond.arrayClass .boolean ∈ lw_all) (hm : m = nI N) (hN : N < 1000) (hk : k + 1 = k') (hn : n + N = n') (hk2 : k' ≤ R.cells) (hn2 : n' ≤ R.slots) (pc' : Nat) (hp : pc + 2 = pc') (d : decode cc pc = .ok (.newarray .boolean, 2)) (kk : ∀ q : Nat, σ q = none → b ≤ q → G z cc own nL R D b (up σ q (oZ D N (fun _ => (0 : Int32)))) k' n' pc' lv (.ref q :: st)) : G z cc own nL R D b σ k n pc lv (.int m :: st) := by
  subst hp
  subst hk
  subst hn
  subst hm
  intro hC H locs ls hH hS hL
  obtain ⟨ws, hP, hD, hR⟩ := id hH
  refine va_newa (atype := .boolean) (ty := .boolean) (N' := N) (a0 := (N, .inl (fun _ => (0 : Int32)))) hC.1 hC.2.1 (hC.2.2.2.2.1 _ harr) rfl hC.2.2.2.2.2.2.1 hP hD hS (gA_ge hC.2.2.2.2.2.2.2.1) (fun cA => rfl) (nI_pos (by omega)) (nI_clamp (by omega)) (by show N * 1 ≤ 536870912; omega) hk2 hn2 d (fun q cA H1 hK1 hP1 hD1 hS1 => ?_)
  have hcA : cA = D.2.1 1 := va_K_last hK1 (t0 := 1) rfl
  subst hcA
  exact kk q (hR.fresh hD1) (last_ge hD1) hC H1 locs ls ⟨_, hP1, hD1, hR.push (hR.fresh hD1)⟩ hS1 hL
theorem g_newaB {z : Dy} {cc : ByteArray} {own : String} {nL : Nat} {R : Room} {D : DD} {b : Nat} {σ : Hp} {k n pc : Nat} {lv : List (Option Value)} {st : List Value} {m : Int32} {N : Nat} (k' n' : Nat) (harr : Cond.arrayClass .byte ∈ lw_all) (hm : m = nI N) (hN : N < 1000) (hk : k + 1 = k') (hn : n + N = n') (hk2 : k' ≤ R.cells) (hn2 : n' ≤ R.slots) (pc' : Nat) (hp : pc + 2 = pc') (d : decode cc pc = .ok (.newarray .byte, 2)) (kk : ∀ q : Nat, σ q = none → b ≤ q → G z cc own nL R D b (up σ q (oB D N (fun _ => (0 : Int32)))) k' n' pc' lv (.ref q :: st)) : G z cc own nL R D b σ k n pc lv (.int m :: st) := by
  subst hp
  subst hk
  subst hn
  subst hm
  intro hC H locs ls hH hS hL
  obtain ⟨ws, hP, hD, hR⟩ := id hH
  refine va_newa (atype := .byte) (ty := .byte) (N' := N) (a0 := (N, .inl (fun _ => (0 : Int32)))) hC.1 hC.2.1 (hC.2.2.2.2.1 _ harr) rfl hC.2.2.2.2.2.2.1 hP hD hS (gA_ge hC.2.2.2.2.2.2.2.1) (fun cA => rfl) (nI_pos (by omega)) (nI_clamp (by omega)) (by show N * 1 ≤ 536870912; omega) hk2 hn2 d (fun q cA H1 hK1 hP1 hD1 hS1 => ?_)
  have hcA : cA = D.2.1 2 := va_K_last hK1 (t0 := 2) rfl
  subst hcA
  exact kk q (hR.fresh hD1) (last_ge hD1) hC H1 locs ls ⟨_, hP1, hD1, hR.push (hR.fresh hD1)⟩ hS1 hL
theorem g_newaL {z : Dy} {cc : ByteArray} {own : String} {nL : Nat} {R : Room} {D : DD} {b : Nat} {σ : Hp} {k n pc : Nat} {lv : List (Option Value)} {st : List Value} {m : Int32} {N : Nat} (k' n' : Nat) (harr : Cond.arrayClass .long ∈ lw_all) (hm : m = nI N) (hN : N < 1000) (hk : k + 1 = k') (hn : n + N = n') (hk2 : k' ≤ R.cells) (hn2 : n' ≤ R.slots) (pc' : Nat) (hp : pc + 2 = pc') (d : decode cc pc = .ok (.newarray .long, 2)) (kk : ∀ q : Nat, σ q = none → b ≤ q → G z cc own nL R D b (up σ q (oL D N (fun _ => (0 : Int64)))) k' n' pc' lv (.ref q :: st)) : G z cc own nL R D b σ k n pc lv (.int m :: st) := by
  subst hp
  subst hk
  subst hn
  subst hm
  intro hC H locs ls hH hS hL
  obtain ⟨ws, hP, hD, hR⟩ := id hH
  refine va_newa (atype := .long) (ty := .long) (N' := N) (a0 := (N, .inr (.inl (fun _ => (0 : Int64))))) hC.1 hC.2.1 (hC.2.2.2.2.1 _ harr) rfl hC.2.2.2.2.2.2.1 hP hD hS (gA_ge hC.2.2.2.2.2.2.2.1) (fun cA => rfl) (nI_pos (by omega)) (nI_clamp (by omega)) (by show N * 8 ≤ 536870912; omega) hk2 hn2 d (fun q cA H1 hK1 hP1 hD1 hS1 => ?_)
  have hcA : cA = D.2.1 3 := va_K_last hK1 (t0 := 3) rfl
  subst hcA
  exact kk q (hR.fresh hD1) (last_ge hD1) hC H1 locs ls ⟨_, hP1, hD1, hR.push (hR.fresh hD1)⟩ hS1 hL
theorem g_newaO {z : Dy} {cc : ByteArray} {own : String} {nL : Nat} {R : Room} {D : DD} {b : Nat} {σ : Hp} {k n pc : Nat} {lv : List (Option Value)} {st : List Value} {m : Int32} {N index : Nat} (k' n' : Nat) (hcl : Cond.classLink own index "java/lang/Object" ∈ lw_all) (hm : m = nI N) (hN : N < 1000) (hk : k + 1 = k') (hn : n + N = n') (hk2 : k' ≤ R.cells) (hn2 : n' ≤ R.slots) (pc' : Nat) (hp : pc + 3 = pc') (d : decode cc pc = .ok (.anewarray index, 3)) (kk : ∀ q : Nat, σ q = none → b ≤ q → G z cc own nL R D b (up σ q (oO D N (fun _ => none))) k' n' pc' lv (.ref q :: st)) : G z cc own nL R D b σ k n pc lv (.int m :: st) := by
  subst hp
  subst hk
  subst hn
  subst hm
  intro hC H locs ls hH hS hL
  obtain ⟨ws, hP, hD, hR⟩ := id hH
  refine va_newq (N' := N) hC.1 hC.2.1 hC.2.2.2.1 (hC.2.2.2.2.1 _ hcl) hC.2.2.2.2.2.2.2.2.2.1.2.2 hC.2.2.2.2.2.2.1 hP hD hS (gA_ge hC.2.2.2.2.2.2.2.1) (nI_pos (by omega)) (nI_clamp (by omega)) (by omega) hk2 hn2 d (fun q cA H1 hK1 hP1 hD1 hS1 => ?_)
  have hcA : cA = D.2.1 4 := va_K_last hK1 (t0 := 4) rfl
  subst hcA
  exact kk q (hR.fresh hD1) (last_ge hD1) hC H1 locs ls ⟨_, hP1, hD1, hR.push (hR.fresh hD1)⟩ hS1 hL
theorem g_newaX {z : Dy} {cc : ByteArray} {own : String} {nL : Nat} {R : Room} {D : DD} {b : Nat} {σ : Hp} {k n pc : Nat} {lv : List (Option Value)} {st : List Value} {m : Int32} {N index : Nat} (k' n' : Nat) (hcl : Cond.classLink own index "DepthSorter$Box" ∈ lw_all) (hm : m = nI N) (hN : N < 1000) (hk : k + 1 = k') (hn : n + N = n') (hk2 : k' ≤ R.cells) (hn2 : n' ≤ R.slots) (pc' : Nat) (hp : pc + 3 = pc') (d : decode cc pc = .ok (.anewarray index, 3)) (kk : ∀ q : Nat, σ q = none → b ≤ q → G z cc own nL R D b (up σ q (oX D N (fun _ => none))) k' n' pc' lv (.ref q :: st)) : G z cc own nL R D b σ k n pc lv (.int m :: st) := by
  subst hp
  subst hk
  subst hn
  subst hm
  intro hC H locs ls hH hS hL
  obtain ⟨ws, hP, hD, hR⟩ := id hH
  refine va_newq (N' := N) hC.1 hC.2.1 hC.2.2.2.1 (hC.2.2.2.2.1 _ hcl) hC.2.2.2.2.2.2.2.2.2.1.1 hC.2.2.2.2.2.2.1 hP hD hS (gA_ge hC.2.2.2.2.2.2.2.1) (nI_pos (by omega)) (nI_clamp (by omega)) (by omega) hk2 hn2 d (fun q cA H1 hK1 hP1 hD1 hS1 => ?_)
  have hcA : cA = D.2.1 5 := va_K_last hK1 (t0 := 5) rfl
  subst hcA
  exact kk q (hR.fresh hD1) (last_ge hD1) hC H1 locs ls ⟨_, hP1, hD1, hR.push (hR.fresh hD1)⟩ hS1 hL
theorem g_newaS {z : Dy} {cc : ByteArray} {own : String} {nL : Nat} {R : Room} {D : DD} {b : Nat} {σ : Hp} {k n pc : Nat} {lv : List (Option Value)} {st : List Value} {m : Int32} {N index : Nat} (k' n' : Nat) (hcl : Cond.classLink own index "DepthSorter$Space" ∈ lw_all) (hm : m = nI N) (hN : N < 1000) (hk : k + 1 = k') (hn : n + N = n') (hk2 : k' ≤ R.cells) (hn2 : n' ≤ R.slots) (pc' : Nat) (hp : pc + 3 = pc') (d : decode cc pc = .ok (.anewarray index, 3)) (kk : ∀ q : Nat, σ q = none → b ≤ q → G z cc own nL R D b (up σ q (oS D N (fun _ => none))) k' n' pc' lv (.ref q :: st)) : G z cc own nL R D b σ k n pc lv (.int m :: st) := by
  subst hp
  subst hk
  subst hn
  subst hm
  intro hC H locs ls hH hS hL
  obtain ⟨ws, hP, hD, hR⟩ := id hH
  refine va_newq (N' := N) hC.1 hC.2.1 hC.2.2.2.1 (hC.2.2.2.2.1 _ hcl) hC.2.2.2.2.2.2.2.2.2.1.2.1 hC.2.2.2.2.2.2.1 hP hD hS (gA_ge hC.2.2.2.2.2.2.2.1) (nI_pos (by omega)) (nI_clamp (by omega)) (by omega) hk2 hn2 d (fun q cA H1 hK1 hP1 hD1 hS1 => ?_)
  have hcA : cA = D.2.1 6 := va_K_last hK1 (t0 := 6) rfl
  subst hcA
  exact kk q (hR.fresh hD1) (last_ge hD1) hC H1 locs ls ⟨_, hP1, hD1, hR.push (hR.fresh hD1)⟩ hS1 hL
theorem g_objInit {z : Dy} {cc : ByteArray} {own : String} {nL : Nat} {R : Room} {D : DD} {b : Nat} {σ : Hp} {k n pc : Nat} {lv : List (Option Value)} {st : List Value} {index a : Nat} (hlink : Cond.methodLink own index Lib.objectInit ∈ lw_all) (hin : Cond.instanceMethod Lib.objectInit ∈ lw_all) (hco : Cond.code Lib.objectInit ⟨#[0xb1]⟩ 1 none ∈ lw_all) (hf : 1 ≤ R.frames) (hlo : (st.map fun v => v.category).sum + 12 ≤ R.locals) (pc' : Nat) (hp : pc + 3 = pc') (d : decode cc pc = .ok (.invokespecial index, 3)) (kk : G z cc own nL R D b σ k n pc' lv (st)) : G z cc own nL R D b σ k n pc lv (.ref a :: st) := by
  subst hp
  intro hC H locs ls hH hS hL
  exact W.objInit hC.1 hC.2.1 hC.2.2.2.1 (hC.2.2.2.2.1 _ hlink) (hC.2.2.2.2.1 _ hin) (hC.2.2.2.2.1 _ hco) rfl (by rw [hC.2.2.1]; exact hL.1.1) rfl d hf (by show 2 * 0 + _ + 12 ≤ _; omega) (kk hC H locs ls hH hS hL)

/-! ===== returns ===== -/
theorem QS_of {D : DD} {b : Nat} {Post : Option Value → Hp → Prop} {a : Array Value} {s t : State} {H : Heap} {locs : List Loc} {v : Option Value} {σ : Hp} (hp : Post v σ) (hH : HS D b σ H) (hS : va_S (gA b) s.heap H locs) (ht : t.heap = H) : QS D b Post a s (.returned v) t := ⟨⟨v, σ, rfl, hp, by rw [ht]; exact hH⟩, hS.F ht⟩
theorem g_iret {z : Dy} {cc : ByteArray} {own : String} {nL : Nat} {R : Room} {D : DD} {b : Nat} {σ : Hp} {k n pc : Nat} {lv : List (Option Value)} {Post : Option Value → Hp → Prop} {ty : FieldType} {v : Int32} (hr : RetOf z (some ty) R D b Post) (hnr : narrow ty (.int v) = .int v) (h1 : k ≤ R.cells) (h2 : n ≤ R.slots) (hp : Post (some (.int v)) σ) (d : decode cc pc = .ok (.ireturn, 1)) : G z cc own nL R D b σ k n pc lv [.int v] := by
  intro hC H locs ls hH hS hL
  refine W.widen h1 h2 ?_
  rw [hr.2]
  exact W.zret (hlocks := hC.2.2.2.2.2.1) hC.1 hC.2.1 hr.1 hnr (fun t ht hW => QS_of hp hH hS ht) hS.2.2 d
theorem g_vret {z : Dy} {cc : ByteArray} {own : String} {nL : Nat} {R : Room} {D : DD} {b : Nat} {σ : Hp} {k n pc : Nat} {lv : List (Option Value)} {Post : Option Value → Hp → Prop} (hr : RetOf z none R D b Post) (h1 : k ≤ R.cells) (h2 : n ≤ R.slots) (hp : Post none σ) (d : decode cc pc = .ok (.return_, 1)) : G z cc own nL R D b σ k n pc lv [] := by
  intro hC H locs ls hH hS hL
  refine W.widen h1 h2 ?_
  rw [hr.2]
  exact W.vret (hlocks := hC.2.2.2.2.2.1) hC.1 hC.2.1 hr.1 (fun t ht hW => QS_of hp hH hS ht) hS.2.2 d
theorem g_aret {z : Dy} {cc : ByteArray} {own : String} {nL : Nat} {R : Room} {D : DD} {b : Nat} {σ : Hp} {k n pc : Nat} {lv : List (Option Value)} {Post : Option Value → Hp → Prop} {rt : FieldType} {v : Value} (hr : RetOf z (some rt) R D b Post) (hrt : (∃ n, rt = .object n) ∨ ∃ t, rt = .array t) (hv : v = .null ∨ ∃ a, v = .ref a) (h1 : k ≤ R.cells) (h2 : n ≤ R.slots) (hp : Post (some v) σ) (d : decode cc pc = .ok (.areturn, 1)) : G z cc own nL R D b σ k n pc lv [v] := by
  intro hC H locs ls hH hS hL
  refine W.widen h1 h2 ?_
  rw [hr.2]
  exact W.aret (hlocks := hC.2.2.2.2.2.1) hC.1 hC.2.1 hr.1 hrt hv (fun t ht hW => QS_of hp hH hS ht) hS.2.2 d

/-! ===== calls ===== -/
theorem g_after {z : Dy} {R : Room} {D : DD} {b : Nat} {H : Heap} {locs : List Loc} {k n mc ms pc : Nat} {ls : Array Slot} {st0 rest : List Value} {a : Array Value} {Post : Option Value → Hp → Prop} (hr : va_Run z.p z.l z.e R z.s z.m z.a z.bl z.me z.c H locs k n mc ms (F0 z.m pc ls st0) rest (QS D b Post a) (gA b)) (hS : va_S (gA b) z.s.heap H locs)
    (kk : ∀ (v : Option Value) (σ' : Hp) (H1 : Heap) (locs1 : List Loc), Post v σ' → HS D b σ' H1 → va_S (gA b) z.s.heap H1 locs1 → WG z R H1 locs1 (k + mc) (n + ms) (F0 z.m (pc + 3) ls (v.toList ++ rest))) : WG z R H locs k n (F0 z.m pc ls st0) := by
  intro T hT X
  obtain ⟨v, st₀, t, T', L, h0, X', hL, e1, e2, ⟨⟨v', σ', hv, hp, hb⟩, hz, hk⟩, st⟩ := hr T hT X
  cases hv
  rw [h0] at hz hk
  obtain ⟨t2, a1, b1⟩ := kk v σ' T'.heap (locs ++ L) hp (by rw [e1]; exact hb)
    ⟨Nat.le_trans hS.1 (by rw [e1]; exact hz), fun q h1 h2 => by rw [e1, hk q (Nat.lt_of_lt_of_le h1 hS.1) h2]; exact hS.2.1 q h1 h2, fun q hq => (List.mem_append.mp hq).elim (hS.2.2 q) (hL q)⟩ T' rfl X'
  exact ⟨t2, st t2 a1, b1⟩
theorem Wd_at {z : Dy} {cc : ByteArray} {own : String} {nL : Nat} {D : DD} {b : Nat} {H : Heap} {locs : List Loc} {U : State} (hC : Cx z cc own nL D b) (hS : va_S (gA b) z.s.heap H locs) (hU : U.heap = H) (hW : z.s.WarmedH U.vm) : Wd D b U := Wd.moved hW (by rw [hU]; exact hS.1) (fun q h1 h2 => by rw [hU]; exact hS.2.1 q h1 h2) hC.2.2.2.2.2.2
/-- what is said once of a static method: its code, its words, its arity -/
def CS (y : MethodName) (cc : ByteArray) (nL : Nat) (ret : Option FieldType) (ar : Nat) : Prop := Cond.static y ∈ lw_all ∧ Cond.initialized y.cls ∈ lw_all ∧ Cond.code y cc nL ret ∈ lw_all ∧ y.cls ≠ "java/lang/invoke/MethodHandle" ∧ y.cls ≠ "java/lang/invoke/VarHandle" ∧ (parseMethodDescriptor y.desc).map (fun d => d.parameters.length) = some ar
/-- the same of an instance method -/
def CV (y : MethodName) (cc : ByteArray) (nL : Nat) (ret : Option FieldType) (ar : Nat) : Prop := Cond.instanceMethod y ∈ lw_all ∧ Cond.selects y.cls y y ∈ lw_all ∧ Cond.initialized y.cls ∈ lw_all ∧ Cond.code y cc nL ret ∈ lw_all ∧ y.cls ≠ "java/lang/invoke/MethodHandle" ∧ y.cls ≠ "java/lang/invoke/VarHandle" ∧ (parseMethodDescriptor y.desc).map (fun d => d.parameters.length) = some ar
/-- the same of a constructor -/
def CI (y : MethodName) (cc : ByteArray) (nL : Nat) (ar : Nat) : Prop := Cond.instanceMethod y ∈ lw_all ∧ Cond.initialized y.cls ∈ lw_all ∧ Cond.code y cc nL none ∈ lw_all ∧ y.name = "<init>" ∧ y.cls ≠ "java/lang/invoke/MethodHandle" ∧ y.cls ≠ "java/lang/invoke/VarHandle" ∧ (parseMethodDescriptor y.desc).map (fun d => d.parameters.length) = some ar
def RoomOk (R' : Room) (nL' : Nat) (R : Room) : Prop := R'.frames + 1 ≤ R.frames ∧ 8 + (nL' + 11) + R'.locals ≤ R.locals
def cat8 (rest : List Value) : Prop := (rest.map fun v => v.category).sum ≤ 8
theorem HS.recv {D : DD} {b : Nat} {σ : Hp} {H : Heap} {s : State} {tys : List (ClassId × FieldType)} (hH : HS D b σ H) (hK : va_K D.1 gcl tys s) {a ci : Nat} {fs : List Value} {q : vw_C} (he : σ a = some (.inr (ci, fs))) (hc : gcl[ci]? = some q) : ∃ cell : Cell, H[a]? = some cell ∧ cell.vm.isStatics = false ∧ s.vm.findClass q.1 = some cell.cls := by
  obtain ⟨ws, hP, hD, hR⟩ := hH
  obtain ⟨i, hi⟩ := (hR _ _).1 he
  exact va_recv hK hP hc hi
theorem g_callS {z : Dy} {cc : ByteArray} {own : String} {nL : Nat} {R : Room} {D : DD} {b : Nat} {σ : Hp} {k n pc : Nat} {lv : List (Option Value)} {st : List Value} {y : MethodName} {cc' : ByteArray} {nL' index ar : Nat} {ret' : Option FieldType} {R' : Room} {As rest : List Value} {Post : Option Value → Hp → Prop} (hM : CM z.l y cc' nL' ret' R' D b As σ Post) (hw : CS y cc' nL' ret' ar) (hlink : Cond.methodLink own index y ∈ lw_all) (hn : As.length = ar) (hst : st = As.reverse ++ rest) (hc8 : cat8 rest) (hRm : RoomOk R' nL' R) (k' n' : Nat) (hk : k + R'.cells ≤ k') (hs : n + R'.slots ≤ n') (hk2 : k' ≤ R.cells) (hs2 : n' ≤ R.slots) (pc' : Nat) (hp : pc + 3 = pc') (d : decode cc pc = .ok (.invokestatic index, 3)) (kk : ∀ (v : Option Value) (σ' : Hp), Post v σ' → G z cc own nL R D b σ' k' n' pc' lv (v.toList ++ rest)) : G z cc own nL R D b σ k n pc lv (st) := by
  subst hp
  subst hst
  intro hC H locs ls hH hS hL
  refine g_after (va_runS (As := As) (rest := rest) ⟨hC.1, hC.2.1, hC.2.2.1, hC.2.2.2.1, hC.2.2.2.2.1⟩ hM (va_cwS ar hC.2.2.2.2.1 (lw_S hlink hw.1 hw.2.1 hw.2.2.1) rfl rfl rfl hw.2.2.2 hRm) ⟨pc_blind, fun U hU hW => ⟨rfl, by rw [hU]; exact hH, Wd_at hC hS hU hW⟩⟩ rfl hn hL.1.1 rfl (lv_room hc8) d ⟨Nat.le_trans hk hk2, Nat.le_trans hs hs2⟩) hS (fun v σ' H1 locs1 hp hH1 hS1 => ?_)
  exact W.widen hk hs (kk v σ' hp hC H1 locs1 ls hH1 hS1 hL)
theorem g_callV {z : Dy} {cc : ByteArray} {own : String} {nL : Nat} {R : Room} {D : DD} {b : Nat} {σ : Hp} {k n pc : Nat} {lv : List (Option Value)} {st : List Value} {y : MethodName} {cc' : ByteArray} {nL' index ar a ci : Nat} {ret' : Option FieldType} {R' : Room} {As rest fs : List Value} {Post : Option Value → Hp → Prop} {r : vw_C} (hM : CM z.l y cc' nL' ret' R' D b (.ref a :: As) σ Post) (hw : CV y cc' nL' ret' ar) (hlink : Cond.methodLink own index y ∈ lw_all) (he : σ a = some (.inr (ci, fs))) (hci : gcl[ci]? = some r) (hr : r.1 = y.cls) (hn : As.length = ar) (hst : st = As.reverse ++ .ref a :: rest) (hc8 : cat8 rest) (hRm : RoomOk R' nL' R) (k' n' : Nat) (hk : k + R'.cells ≤ k') (hs : n + R'.slots ≤ n') (hk2 : k' ≤ R.cells) (hs2 : n' ≤ R.slots) (pc' : Nat) (hp : pc + 3 = pc') (d : decode cc pc = .ok (.invokevirtual index, 3)) (kk : ∀ (v : Option Value) (σ' : Hp), Post v σ' → G z cc own nL R D b σ' k' n' pc' lv (v.toList ++ rest)) : G z cc own nL R D b σ k n pc lv (st) := by
  subst hp
  subst hst
  intro hC H locs ls hH hS hL
  refine g_after (va_runV (C := y.cls) (As := As) (rest := rest) ⟨hC.1, hC.2.1, hC.2.2.1, hC.2.2.2.1, hC.2.2.2.2.1⟩ hM (cwV ar hC.2.2.2.2.1 (lw_V hlink hw.1 hw.2.1 hw.2.2.1 hw.2.2.2.1) rfl rfl rfl ⟨rfl, hw.2.2.2.2⟩ hRm) ⟨pc_blind, by rw [← hr]; exact hH.recv hC.2.2.2.2.2.2.1 he hci, fun U hU hW => ⟨rfl, by rw [hU]; exact hH, Wd_at hC hS hU hW⟩⟩ rfl hn hL.1.1 rfl (lv_room hc8) d ⟨Nat.le_trans hk hk2, Nat.le_trans hs hs2⟩) hS (fun v σ' H1 locs1 hp hH1 hS1 => ?_)
  exact W.widen hk hs (kk v σ' hp hC H1 locs1 ls hH1 hS1 hL)
theorem g_callI {z : Dy} {cc : ByteArray} {own : String} {nL : Nat} {R : Room} {D : DD} {b : Nat} {σ : Hp} {k n pc : Nat} {lv : List (Option Value)} {st : List Value} {y : MethodName} {cc' : ByteArray} {nL' index ar a : Nat} {R' : Room} {As rest : List Value} {Post : Option Value → Hp → Prop} (hM : CM z.l y cc' nL' none R' D b (.ref a :: As) σ Post) (hw : CI y cc' nL' ar) (hlink : Cond.methodLink own index y ∈ lw_all) (hn : As.length = ar) (hst : st = As.reverse ++ .ref a :: rest) (hc8 : cat8 rest) (hRm : RoomOk R' nL' R) (k' n' : Nat) (hk : k + R'.cells ≤ k') (hs : n + R'.slots ≤ n') (hk2 : k' ≤ R.cells) (hs2 : n' ≤ R.slots) (pc' : Nat) (hp : pc + 3 = pc') (d : decode cc pc = .ok (.invokespecial index, 3)) (kk : ∀ (v : Option Value) (σ' : Hp), Post v σ' → G z cc own nL R D b σ' k' n' pc' lv (v.toList ++ rest)) : G z cc own nL R D b σ k n pc lv (st) := by
  subst hp
  subst hst
  intro hC H locs ls hH hS hL
  refine g_after (va_runI (As := As) (rest := rest) ⟨hC.1, hC.2.1, hC.2.2.1, hC.2.2.2.1, hC.2.2.2.2.1⟩ hM (cwI ar hC.2.2.2.2.1 (lw_meth hw.2.2.1) rfl rfl rfl (hC.2.2.2.2.1 _ hw.2.1) (hC.2.2.2.2.1 _ hlink) (hC.2.2.2.2.1 _ hw.1) hw.2.2.2.1 hw.2.2.2.2 hRm) ⟨pc_blind, fun U hU hW => ⟨rfl, by rw [hU]; exact hH, Wd_at hC hS hU hW⟩⟩ rfl hn hL.1.1 rfl (lv_room hc8) d ⟨Nat.le_trans hk hk2, Nat.le_trans hs hs2⟩) hS (fun v σ' H1 locs1 hp hH1 hS1 => ?_)
  exact W.widen hk hs (kk v σ' hp hC H1 locs1 ls hH1 hS1 hL)

/-! ===== forms of posts ===== -/
theorem cat_all {As : List Value} (h : As.all (fun v => v.category == 1) = true) : ∀ v ∈ As, v.category = 1 := fun v hv => by
  have := List.all_eq_true.mp h v hv
  simpa using this
def PI (P : Int32 → Hp → Prop) : Option Value → Hp → Prop := fun v σ => ∃ r : Int32, v = some (.int r) ∧ P r σ
def PV (P : Hp → Prop) : Option Value → Hp → Prop := fun v σ => v = none ∧ P σ
def PR (P : Nat → Hp → Prop) : Option Value → Hp → Prop := fun v σ => ∃ r : Nat, v = some (.ref r) ∧ P r σ
def PQ (P : Option Nat → Hp → Prop) : Option Value → Hp → Prop := fun v σ => ∃ r : Option Nat, v = some (va_rf r) ∧ P r σ
def bI (p : Bool) : Int32 := if p then 1 else 0
theorem bI_t : bI true = 1 := rfl
theorem bI_f : bI false = 0 := rfl
theorem bI_eq0 {p : Bool} : bI p = 0 ↔ p = false := by cases p <;> decide
theorem bI_ne0 {p : Bool} : ¬ bI p = 0 ↔ p = true := by cases p <;> decide
theorem nz_b (p : Bool) : narrow .boolean (.int (bI p)) = .int (bI p) := by cases p <;> rfl
theorem nz_0 : narrow .boolean (.int 0) = .int 0 := rfl
theorem nz_1 : narrow .boolean (.int 1) = .int 1 := rfl
/-- a method that only reads, and answers x -/
def PIx (x : Int32) (σ : Hp) : Option Value → Hp → Prop := fun v σ' => v = some (.int x) ∧ σ = σ'
theorem g_ialdE {z : Dy} {cc : ByteArray} {own : String} {nL : Nat} {R : Room} {D : DD} {b : Nat} {σ : Hp} {k n pc : Nat} {lv : List (Option Value)} {st : List Value} {a j N : Nat} {i v : Int32} {f : Nat → Int32} (he : σ a = some (oI D N f)) (hi : i = nI j) (hj : j < N) (hN : N < 2 ^ 31) (hv : f j = v) (pc' : Nat) (hp : pc + 1 = pc') (d : decode cc pc = .ok (.iaload, 1)) (kk : G z cc own nL R D b σ k n pc' lv (.int v :: st)) : G z cc own nL R D b σ k n pc lv (.int i :: .ref a :: st) := by
  subst hv
  exact g_iald he hi hj hN pc' hp d kk
theorem g_zaldE {z : Dy} {cc : ByteArray} {own : String} {nL : Nat} {R : Room} {D : DD} {b : Nat} {σ : Hp} {k n pc : Nat} {lv : List (Option Value)} {st : List Value} {a j N : Nat} {i v : Int32} {f : Nat → Int32} (he : σ a = some (oZ D N f)) (hi : i = nI j) (hj : j < N) (hN : N < 2 ^ 31) (hv : f j = v) (pc' : Nat) (hp : pc + 1 = pc') (d : decode cc pc = .ok (.baload, 1)) (kk : G z cc own nL R D b σ k n pc' lv (.int v :: st)) : G z cc own nL R D b σ k n pc lv (.int i :: .ref a :: st) := by
  subst hv
  exact g_zald he hi hj hN pc' hp d kk
/-! ===== rows over naturals and booleans ===== -/
theorem g_iaddN {z : Dy} {cc : ByteArray} {own : String} {nL : Nat} {R : Room} {D : DD} {b : Nat} {σ : Hp} {k n pc : Nat} {lv : List (Option Value)} {st : List Value} {x y : Int32} {a c : Nat} (hx : x = nI a) (hy : y = nI c) (pc' : Nat) (hp : pc + 1 = pc') (d : decode cc pc = .ok (.iadd, 1)) (kk : G z cc own nL R D b σ k n pc' lv (.int (nI (a + c)) :: st)) : G z cc own nL R D b σ k n pc lv (.int y :: .int x :: st) := by
  subst hx
  subst hy
  refine g_iadd pc' hp d ?_
  rw [nI_add]
  exact kk
theorem g_imulN {z : Dy} {cc : ByteArray} {own : String} {nL : Nat} {R : Room} {D : DD} {b : Nat} {σ : Hp} {k n pc : Nat} {lv : List (Option Value)} {st : List Value} {x y : Int32} {a c : Nat} (hx : x = nI a) (hy : y = nI c) (pc' : Nat) (hp : pc + 1 = pc') (d : decode cc pc = .ok (.imul, 1)) (kk : G z cc own nL R D b σ k n pc' lv (.int (nI (a * c)) :: st)) : G z cc own nL R D b σ k n pc lv (.int y :: .int x :: st) := by
  subst hx
  subst hy
  refine g_imul pc' hp d ?_
  rw [pk_mul]
  exact kk
theorem g_isubN {z : Dy} {cc : ByteArray} {own : String} {nL : Nat} {R : Room} {D : DD} {b : Nat} {σ : Hp} {k n pc : Nat} {lv : List (Option Value)} {st : List Value} {x y : Int32} {a c : Nat} (hx : x = nI a) (hy : y = nI c) (hle : c ≤ a) (pc' : Nat) (hp : pc + 1 = pc') (d : decode cc pc = .ok (.isub, 1)) (kk : G z cc own nL R D b σ k n pc' lv (.int (nI (a - c)) :: st)) : G z cc own nL R D b σ k n pc lv (.int y :: .int x :: st) := by
  subst hx
  subst hy
  refine g_isub pc' hp d ?_
  rw [pk_sub hle]
  exact kk
theorem g_iremN {z : Dy} {cc : ByteArray} {own : String} {nL : Nat} {R : Room} {D : DD} {b : Nat} {σ : Hp} {k n pc : Nat} {lv : List (Option Value)} {st : List Value} {x y : Int32} {a c : Nat} (hx : x = nI a) (hy : y = nI c) (ha : a < 2 ^ 31) (hc0 : 0 < c) (hc : c < 2 ^ 31) (pc' : Nat) (hp : pc + 1 = pc') (d : decode cc pc = .ok (.irem, 1)) (kk : G z cc own nL R D b σ k n pc' lv (.int (nI (a % c)) :: st)) : G z cc own nL R D b σ k n pc lv (.int y :: .int x :: st) := by
  subst hx
  subst hy
  refine g_irem (nI_ne0 hc0 hc) pc' hp d ?_
  rw [pk_rem ha hc0 hc]
  exact kk
theorem g_icmp_eqN {z : Dy} {cc : ByteArray} {own : String} {nL : Nat} {R : Room} {D : DD} {b : Nat} {σ : Hp} {k n pc : Nat} {lv : List (Option Value)} {st : List Value} {x y : Int32} {a c : Nat} {off : Int} (hx : x = nI a) (hy : y = nI c) (ha : a < 2 ^ 31) (hc : c < 2 ^ 31) (tgt pc' : Nat) (hp : pc + 3 = pc') (ht : (pc : Int) + off = (tgt : Int)) (d : decode cc pc = .ok (.if_icmp .eq off, 3)) (kt : a = c → G z cc own nL R D b σ k n tgt lv (st)) (kf : a ≠ c → G z cc own nL R D b σ k n pc' lv (st)) : G z cc own nL R D b σ k n pc lv (.int y :: .int x :: st) := by
  subst hx
  subst hy
  exact g_icmp_eq tgt pc' hp ht d (fun h => kt ((nI_eq ha hc).1 h)) (fun h => kf (fun e => h ((nI_eq ha hc).2 e)))
theorem g_icmp_neN {z : Dy} {cc : ByteArray} {own : String} {nL : Nat} {R : Room} {D : DD} {b : Nat} {σ : Hp} {k n pc : Nat} {lv : List (Option Value)} {st : List Value} {x y : Int32} {a c : Nat} {off : Int} (hx : x = nI a) (hy : y = nI c) (ha : a < 2 ^ 31) (hc : c < 2 ^ 31) (tgt pc' : Nat) (hp : pc + 3 = pc') (ht : (pc : Int) + off = (tgt : Int)) (d : decode cc pc = .ok (.if_icmp .ne off, 3)) (kt : a ≠ c → G z cc own nL R D b σ k n tgt lv (st)) (kf : a = c → G z cc own nL R D b σ k n pc' lv (st)) : G z cc own nL R D b σ k n pc lv (.int y :: .int x :: st) := by
  subst hx
  subst hy
  exact g_icmp_ne tgt pc' hp ht d (fun h => kt (fun e => h ((nI_eq ha hc).2 e))) (fun h => kf ((nI_eq ha hc).1 h))
theorem g_icmp_ltN {z : Dy} {cc : ByteArray} {own : String} {nL : Nat} {R : Room} {D : DD} {b : Nat} {σ : Hp} {k n pc : Nat} {lv : List (Option Value)} {st : List Value} {x y : Int32} {a c : Nat} {off : Int} (hx : x = nI a) (hy : y = nI c) (ha : a < 2 ^ 31) (hc : c < 2 ^ 31) (tgt pc' : Nat) (hp : pc + 3 = pc') (ht : (pc : Int) + off = (tgt : Int)) (d : decode cc pc = .ok (.if_icmp .lt off, 3)) (kt : a < c → G z cc own nL R D b σ k n tgt lv (st)) (kf : c ≤ a → G z cc own nL R D b σ k n pc' lv (st)) : G z cc own nL R D b σ k n pc lv (.int y :: .int x :: st) := by
  subst hx
  subst hy
  exact g_icmp_lt tgt pc' hp ht d (fun h => kt ((nI_ltI ha hc).1 h)) (fun h => kf (Nat.not_lt.1 (fun e => h ((nI_ltI ha hc).2 e))))
theorem g_icmp_geN {z : Dy} {cc : ByteArray} {own : String} {nL : Nat} {R : Room} {D : DD} {b : Nat} {σ : Hp} {k n pc : Nat} {lv : List (Option Value)} {st : List Value} {x y : Int32} {a c : Nat} {off : Int} (hx : x = nI a) (hy : y = nI c) (ha : a < 2 ^ 31) (hc : c < 2 ^ 31) (tgt pc' : Nat) (hp : pc + 3 = pc') (ht : (pc : Int) + off = (tgt : Int)) (d : decode cc pc = .ok (.if_icmp .ge off, 3)) (kt : c ≤ a → G z cc own nL R D b σ k n tgt lv (st)) (kf : a < c → G z cc own nL R D b σ k n pc' lv (st)) : G z cc own nL R D b σ k n pc lv (.int y :: .int x :: st) := by
  subst hx
  subst hy
  exact g_icmp_ge tgt pc' hp ht d (fun h => kt (Nat.not_lt.1 (fun e => h ((nI_ltI ha hc).2 e)))) (fun h => kf ((nI_ltI ha hc).1 h))
theorem g_icmp_gtN {z : Dy} {cc : ByteArray} {own : String} {nL : Nat} {R : Room} {D : DD} {b : Nat} {σ : Hp} {k n pc : Nat} {lv : List (Option Value)} {st : List Value} {x y : Int32} {a c : Nat} {off : Int} (hx : x = nI a) (hy : y = nI c) (ha : a < 2 ^ 31) (hc : c < 2 ^ 31) (tgt pc' : Nat) (hp : pc + 3 = pc') (ht : (pc : Int) + off = (tgt : Int)) (d : decode cc pc = .ok (.if_icmp .gt off, 3)) (kt : c < a → G z cc own nL R D b σ k n tgt lv (st)) (kf : a ≤ c → G z cc own nL R D b σ k n pc' lv (st)) : G z cc own nL R D b σ k n pc lv (.int y :: .int x :: st) := by
  subst hx
  subst hy
  exact g_icmp_gt tgt pc' hp ht d (fun h => kt ((nI_ltI hc ha).1 h)) (fun h => kf (Nat.not_lt.1 (fun e => h ((nI_ltI hc ha).2 e))))
theorem g_icmp_leN {z : Dy} {cc : ByteArray} {own : String} {nL : Nat} {R : Room} {D : DD} {b : Nat} {σ : Hp} {k n pc : Nat} {lv : List (Option Value)} {st : List Value} {x y : Int32} {a c : Nat} {off : Int} (hx : x = nI a) (hy : y = nI c) (ha : a < 2 ^ 31) (hc : c < 2 ^ 31) (tgt pc' : Nat) (hp : pc + 3 = pc') (ht : (pc : Int) + off = (tgt : Int)) (d : decode cc pc = .ok (.if_icmp .le off, 3)) (kt : a ≤ c → G z cc own nL R D b σ k n tgt lv (st)) (kf : c < a → G z cc own nL R D b σ k n pc' lv (st)) : G z cc own nL R D b σ k n pc lv (.int y :: .int x :: st) := by
  subst hx
  subst hy
  exact g_icmp_le tgt pc' hp ht d (fun h => kt (Nat.not_lt.1 (fun e => h ((nI_ltI hc ha).2 e)))) (fun h => kf ((nI_ltI hc ha).1 h))
theorem g_if_eqN {z : Dy} {cc : ByteArray} {own : String} {nL : Nat} {R : Room} {D : DD} {b : Nat} {σ : Hp} {k n pc : Nat} {lv : List (Option Value)} {st : List Value} {x : Int32} {a : Nat} {off : Int} (hx : x = nI a) (ha : a < 2 ^ 31) (tgt pc' : Nat) (hp : pc + 3 = pc') (ht : (pc : Int) + off = (tgt : Int)) (d : decode cc pc = .ok (.ifCond .eq off, 3)) (kt : a = 0 → G z cc own nL R D b σ k n tgt lv (st)) (kf : a ≠ 0 → G z cc own nL R D b σ k n pc' lv (st)) : G z cc own nL R D b σ k n pc lv (.int x :: st) := by
  subst hx
  exact g_if_eq tgt pc' hp ht d (fun h => kt (Classical.byContradiction fun e => nI_ne0 (Nat.pos_of_ne_zero e) ha h)) (fun h => kf (fun e => h (by rw [e]; rfl)))
theorem g_if_neN {z : Dy} {cc : ByteArray} {own : String} {nL : Nat} {R : Room} {D : DD} {b : Nat} {σ : Hp} {k n pc : Nat} {lv : List (Option Value)} {st : List Value} {x : Int32} {a : Nat} {off : Int} (hx : x = nI a) (ha : a < 2 ^ 31) (tgt pc' : Nat) (hp : pc + 3 = pc') (ht : (pc : Int) + off = (tgt : Int)) (d : decode cc pc = .ok (.ifCond .ne off, 3)) (kt : a ≠ 0 → G z cc own nL R D b σ k n tgt lv (st)) (kf : a = 0 → G z cc own nL R D b σ k n pc' lv (st)) : G z cc own nL R D b σ k n pc lv (.int x :: st) := by
  subst hx
  exact g_if_ne tgt pc' hp ht d (fun h => kt (fun e => h (by rw [e]; rfl))) (fun h => kf (Classical.byContradiction fun e => nI_ne0 (Nat.pos_of_ne_zero e) ha h))
theorem g_if_gtN {z : Dy} {cc : ByteArray} {own : String} {nL : Nat} {R : Room} {D : DD} {b : Nat} {σ : Hp} {k n pc : Nat} {lv : List (Option Value)} {st : List Value} {x : Int32} {a : Nat} {off : Int} (hx : x = nI a) (ha : a < 2 ^ 31) (tgt pc' : Nat) (hp : pc + 3 = pc') (ht : (pc : Int) + off = (tgt : Int)) (d : decode cc pc = .ok (.ifCond .gt off, 3)) (kt : 0 < a → G z cc own nL R D b σ k n tgt lv (st)) (kf : a = 0 → G z cc own nL R D b σ k n pc' lv (st)) : G z cc own nL R D b σ k n pc lv (.int x :: st) := by
  subst hx
  exact g_if_gt tgt pc' hp ht d (fun h => kt (Nat.pos_of_ne_zero fun e => by rw [e] at h; exact absurd h (by decide))) (fun h => kf (Classical.byContradiction fun e => h (nI_lt (Nat.pos_of_ne_zero e) ha)))
theorem g_if_leN {z : Dy} {cc : ByteArray} {own : String} {nL : Nat} {R : Room} {D : DD} {b : Nat} {σ : Hp} {k n pc : Nat} {lv : List (Option Value)} {st : List Value} {x : Int32} {a : Nat} {off : Int} (hx : x = nI a) (ha : a < 2 ^ 31) (tgt pc' : Nat) (hp : pc + 3 = pc') (ht : (pc : Int) + off = (tgt : Int)) (d : decode cc pc = .ok (.ifCond .le off, 3)) (kt : a = 0 → G z cc own nL R D b σ k n tgt lv (st)) (kf : 0 < a → G z cc own nL R D b σ k n pc' lv (st)) : G z cc own nL R D b σ k n pc lv (.int x :: st) := by
  subst hx
  exact g_if_le tgt pc' hp ht d (fun h => kt (Classical.byContradiction fun e => h (nI_lt (Nat.pos_of_ne_zero e) ha))) (fun h => kf (Nat.pos_of_ne_zero fun e => by rw [e] at h; exact absurd h (by decide)))
theorem g_if_ltN {z : Dy} {cc : ByteArray} {own : String} {nL : Nat} {R : Room} {D : DD} {b : Nat} {σ : Hp} {k n pc : Nat} {lv : List (Option Value)} {st : List Value} {x : Int32} {a : Nat} {off : Int} (hx : x = nI a) (ha : a < 2 ^ 31) (pc' : Nat) (hp : pc + 3 = pc') (tgt : Nat) (ht : (pc : Int) + off = (tgt : Int)) (d : decode cc pc = .ok (.ifCond .lt off, 3)) (kf : G z cc own nL R D b σ k n pc' lv (st)) : G z cc own nL R D b σ k n pc lv (.int x :: st) := by
  subst hx
  exact g_if_lt tgt pc' hp ht d (fun h => absurd h (nI_pos ha)) (fun _ => kf)
theorem g_if_geN {z : Dy} {cc : ByteArray} {own : String} {nL : Nat} {R : Room} {D : DD} {b : Nat} {σ : Hp} {k n pc : Nat} {lv : List (Option Value)} {st : List Value} {x : Int32} {a : Nat} {off : Int} (hx : x = nI a) (ha : a < 2 ^ 31) (tgt : Nat) (ht : (pc : Int) + off = (tgt : Int)) (d : decode cc pc = .ok (.ifCond .ge off, 3)) (kt : G z cc own nL R D b σ k n tgt lv (st)) : G z cc own nL R D b σ k n pc lv (.int x :: st) := by
  subst hx
  exact g_if_ge tgt (pc + 3) rfl ht d (fun _ => kt) (fun h => absurd h (nI_pos ha))
theorem g_if_eqB {z : Dy} {cc : ByteArray} {own : String} {nL : Nat} {R : Room} {D : DD} {b : Nat} {σ : Hp} {k n pc : Nat} {lv : List (Option Value)} {st : List Value} {p : Bool} {off : Int} (tgt pc' : Nat) (hp : pc + 3 = pc') (ht : (pc : Int) + off = (tgt : Int)) (d : decode cc pc = .ok (.ifCond .eq off, 3)) (kt : p = false → G z cc own nL R D b σ k n tgt lv (st)) (kf : p = true → G z cc own nL R D b σ k n pc' lv (st)) : G z cc own nL R D b σ k n pc lv (.int (bI p) :: st) :=
  g_if_eq tgt pc' hp ht d (fun h => kt (bI_eq0.1 h)) (fun h => kf (bI_ne0.1 h))
theorem g_if_neB {z : Dy} {cc : ByteArray} {own : String} {nL : Nat} {R : Room} {D : DD} {b : Nat} {σ : Hp} {k n pc : Nat} {lv : List (Option Value)} {st : List Value} {p : Bool} {off : Int} (tgt pc' : Nat) (hp : pc + 3 = pc') (ht : (pc : Int) + off = (tgt : Int)) (d : decode cc pc = .ok (.ifCond .ne off, 3)) (kt : p = true → G z cc own nL R D b σ k n tgt lv (st)) (kf : p = false → G z cc own nL R D b σ k n pc' lv (st)) : G z cc own nL R D b σ k n pc lv (.int (bI p) :: st) :=
  g_if_ne tgt pc' hp ht d (fun h => kt (bI_ne0.1 h)) (fun h => kf (bI_eq0.1 h))
