/-! MORE ROWS of layer G, for the component -/
set_option maxRecDepth 100000
def mxI (a c : Int32) : Int32 := if a < c then c else a
def mnI (a c : Int32) : Int32 := if c < a then c else a
theorem g_mmax {z : Dy} {cc : ByteArray} {own : String} {nL : Nat} {R : Room} {D : DD} {b : Nat} {σ : Hp} {k n pc : Nat} {lv : List (Option Value)} {st : List Value} {index : Nat} {x y : Int32} (hlink : Cond.methodLink own index Lib.Math.max.name ∈ lw_all) (hf : 1 ≤ R.frames) (hlo : (st.map fun v => v.category).sum + 13 ≤ R.locals) (h1 : k ≤ R.cells) (h2 : n ≤ R.slots) (pc' : Nat) (hp : pc + 3 = pc') (d : decode cc pc = .ok (.invokestatic index, 3)) (kk : G z cc own nL R D b σ k n pc' lv (.int (mxI x y) :: st)) : G z cc own nL R D b σ k n pc lv (.int y :: .int x :: st) := by
  subst hp
  intro hC H locs ls hH hS hL
  exact va_mmax hC.1 hC.2.1 (by rw [hC.2.2.1]; exact hL.1.1.symm) hC.2.2.2.1 (hC.2.2.2.2.1 _ hlink) (hC.2.2.2.2.1 _ q617) (hC.2.2.2.2.1 _ q90) (hC.2.2.2.2.1 _ q618) hf hlo h1 h2 d (kk hC H locs ls hH hS hL)
theorem g_mmin {z : Dy} {cc : ByteArray} {own : String} {nL : Nat} {R : Room} {D : DD} {b : Nat} {σ : Hp} {k n pc : Nat} {lv : List (Option Value)} {st : List Value} {index : Nat} {x y : Int32} (hlink : Cond.methodLink own index Lib.Math.min.name ∈ lw_all) (hf : 1 ≤ R.frames) (hlo : (st.map fun v => v.category).sum + 13 ≤ R.locals) (h1 : k ≤ R.cells) (h2 : n ≤ R.slots) (pc' : Nat) (hp : pc + 3 = pc') (d : decode cc pc = .ok (.invokestatic index, 3)) (kk : G z cc own nL R D b σ k n pc' lv (.int (mnI x y) :: st)) : G z cc own nL R D b σ k n pc lv (.int y :: .int x :: st) := by
  subst hp
  intro hC H locs ls hH hS hL
  exact va_mmin hC.1 hC.2.1 (by rw [hC.2.2.1]; exact hL.1.1.symm) hC.2.2.2.1 (hC.2.2.2.2.1 _ hlink) (hC.2.2.2.2.1 _ q563) (hC.2.2.2.2.1 _ q90) (hC.2.2.2.2.1 _ q564) hf hlo h1 h2 d (kk hC H locs ls hH hS hL)
theorem arrV_fit {cA : ClassId} {n : Nat} {f : Nat → Value} {ty : FieldType} (h : ∀ j, fits ty (f j) = true) : ∀ (i : Nat) (v : Value), (arrV cA n f).slots[i]? = some v → fits ty v = true := by
  intro i v e
  by_cases hi : i < n
  · rw [arrV_read cA f hi] at e
    cases e
    exact h i
  · rw [Array.getElem?_eq_none (by rw [arrV_size]; omega)] at e
    cases e
theorem g_cloneI {z : Dy} {cc : ByteArray} {own : String} {nL : Nat} {R : Room} {D : DD} {b : Nat} {σ : Hp} {k n pc : Nat} {lv : List (Option Value)} {st : List Value} {index a N : Nat} {f : Nat → Int32} (k' n' : Nat) (he : σ a = some (oI D N f)) (hlink : Cond.methodLink own index ⟨"[I", "clone", "()Ljava/lang/Object;"⟩ ∈ lw_all) (hf : 1 ≤ R.frames) (hlo : (st.map fun v => v.category).sum + 14 ≤ R.locals) (hk : k + 1 = k') (hn : n + N = n') (hk2 : k' ≤ R.cells) (hn2 : n' ≤ R.slots) (pc' : Nat) (hp : pc + 3 = pc') (d : decode cc pc = .ok (.invokevirtual index, 3)) (kk : ∀ q : Nat, σ q = none → b ≤ q → G z cc own nL R D b (up σ q (oI D N f)) k' n' pc' lv (.ref q :: st)) : G z cc own nL R D b σ k n pc lv (.ref a :: st) := by
  subst hp
  subst hk
  subst hn
  intro hC H locs ls hH hS hL
  obtain ⟨ws, hP, hD, hR⟩ := id hH
  obtain ⟨q0, hq0⟩ := (hR _ _).1 he
  have hfc : z.s.vm.findClass "[I" = some (D.2.1 0) := by
    have h9 := (hC.2.2.2.2.2.2.1.2 0 _ rfl).2
    exact h9
  refine va_clone hC.1 hC.2.1 (by rw [hC.2.2.1]; exact hL.1.1.symm) hC.2.2.2.1 (hC.2.2.2.2.1 _ hlink) (hC.2.2.2.2.1 _ q403) (hC.2.2.2.2.1 _ q306) (hC.2.2.2.2.1 _ q307) (hC.2.2.2.2.1 _ q404) (hC.2.2.2.2.2.2.2.2.1 _ q405 rfl) hC.2.2.2.2.2.2.1 hP hD hS (gA_ge hC.2.2.2.2.2.2.2.1) q0 0 hq0 rfl hfc (arrV_fit (fun j => rfl)) hf hlo hk2 hn2 d (fun q H1 hK1 hP1 hD1 hS1 => ?_)
  exact kk q (hR.fresh hD1) (last_ge hD1) hC H1 locs ls ⟨_, hP1, hD1, hR.push (hR.fresh hD1)⟩ hS1 hL
theorem g_castI {z : Dy} {cc : ByteArray} {own : String} {nL : Nat} {R : Room} {D : DD} {b : Nat} {σ : Hp} {k n pc : Nat} {lv : List (Option Value)} {st : List Value} {index a N : Nat} {f : Nat → Int32} (he : σ a = some (oI D N f)) (hlink : Cond.classLink own index "[I" ∈ lw_all) (pc' : Nat) (hp : pc + 3 = pc') (d : decode cc pc = .ok (.checkcast index, 3)) (kk : G z cc own nL R D b σ k n pc' lv (.ref a :: st)) : G z cc own nL R D b σ k n pc lv (.ref a :: st) := by
  subst hp
  intro hC H locs ls hH hS hL
  obtain ⟨ws, hP, hD, hR⟩ := id hH
  obtain ⟨q0, hq0⟩ := (hR _ _).1 he
  have hfc : z.s.vm.findClass "[I" = some (D.2.1 0) := by
    have h9 := (hC.2.2.2.2.2.2.1.2 0 _ rfl).2
    exact h9
  exact va_castA hC.1 hC.2.1 hC.2.2.2.1 (hC.2.2.2.2.1 _ hlink) hP q0 hq0 hfc d (kk hC H locs ls hH hS hL)
theorem g_cloneX {z : Dy} {cc : ByteArray} {own : String} {nL : Nat} {R : Room} {D : DD} {b : Nat} {σ : Hp} {k n pc : Nat} {lv : List (Option Value)} {st : List Value} {index a N : Nat} {f : Nat → Option Nat} (k' n' : Nat) (he : σ a = some (oX D N f)) (hlink : Cond.methodLink own index ⟨"[LDepthSorter$Box;", "clone", "()Ljava/lang/Object;"⟩ ∈ lw_all) (hf : 1 ≤ R.frames) (hlo : (st.map fun v => v.category).sum + 14 ≤ R.locals) (hk : k + 1 = k') (hn : n + N = n') (hk2 : k' ≤ R.cells) (hn2 : n' ≤ R.slots) (pc' : Nat) (hp : pc + 3 = pc') (d : decode cc pc = .ok (.invokevirtual index, 3)) (kk : ∀ q : Nat, σ q = none → b ≤ q → G z cc own nL R D b (up σ q (oX D N f)) k' n' pc' lv (.ref q :: st)) : G z cc own nL R D b σ k n pc lv (.ref a :: st) := by
  subst hp
  subst hk
  subst hn
  intro hC H locs ls hH hS hL
  obtain ⟨ws, hP, hD, hR⟩ := id hH
  obtain ⟨q0, hq0⟩ := (hR _ _).1 he
  have hfc : z.s.vm.findClass "[LDepthSorter$Box;" = some (D.2.1 5) := by
    have h9 := (hC.2.2.2.2.2.2.1.2 5 _ rfl).2
    obtain ⟨_, _, _, _, _, h9⟩ := h9
    exact h9
  refine va_clone hC.1 hC.2.1 (by rw [hC.2.2.1]; exact hL.1.1.symm) hC.2.2.2.1 (hC.2.2.2.2.1 _ hlink) (hC.2.2.2.2.1 _ q305) (hC.2.2.2.2.1 _ q306) (hC.2.2.2.2.1 _ q307) (hC.2.2.2.2.1 _ q308) (hC.2.2.2.2.2.2.2.2.1 _ q309 rfl) hC.2.2.2.2.2.2.1 hP hD hS (gA_ge hC.2.2.2.2.2.2.2.1) q0 5 hq0 rfl hfc (arrV_fit (fun j => by cases f j <;> rfl)) hf hlo hk2 hn2 d (fun q H1 hK1 hP1 hD1 hS1 => ?_)
  exact kk q (hR.fresh hD1) (last_ge hD1) hC H1 locs ls ⟨_, hP1, hD1, hR.push (hR.fresh hD1)⟩ hS1 hL
theorem g_castX {z : Dy} {cc : ByteArray} {own : String} {nL : Nat} {R : Room} {D : DD} {b : Nat} {σ : Hp} {k n pc : Nat} {lv : List (Option Value)} {st : List Value} {index a N : Nat} {f : Nat → Option Nat} (he : σ a = some (oX D N f)) (hlink : Cond.classLink own index "[LDepthSorter$Box;" ∈ lw_all) (pc' : Nat) (hp : pc + 3 = pc') (d : decode cc pc = .ok (.checkcast index, 3)) (kk : G z cc own nL R D b σ k n pc' lv (.ref a :: st)) : G z cc own nL R D b σ k n pc lv (.ref a :: st) := by
  subst hp
  intro hC H locs ls hH hS hL
  obtain ⟨ws, hP, hD, hR⟩ := id hH
  obtain ⟨q0, hq0⟩ := (hR _ _).1 he
  have hfc : z.s.vm.findClass "[LDepthSorter$Box;" = some (D.2.1 5) := by
    have h9 := (hC.2.2.2.2.2.2.1.2 5 _ rfl).2
    obtain ⟨_, _, _, _, _, h9⟩ := h9
    exact h9
  exact va_castA hC.1 hC.2.1 hC.2.2.2.1 (hC.2.2.2.2.1 _ hlink) hP q0 hq0 hfc d (kk hC H locs ls hH hS hL)
