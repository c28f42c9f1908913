section
/-- a bound of an array, as a boolean -/
def sw_ok (i : Int32) (n : Nat) : Bool := decide (¬ (i < 0 ∨ n ≤ i.toNatClampNeg))
theorem sw_okP {i : Int32} {n : Nat} (h : sw_ok i n = true) : vp_in i n := of_decide_eq_true (p := ¬ (i < 0 ∨ n ≤ i.toNatClampNeg)) h
theorem sw_gd {α : Type} {b : Bool} {o : Option α} {r : α} (h : (if b = true then o else none) = some r) : b = true ∧ o = some r := by
  cases b
  · exact absurd h (by simp)
  · exact ⟨rfl, by simpa using h⟩
theorem sw_bd {α β : Type} {o : Option α} {f : α → Option β} {r : β} (h : o.bind f = some r) : ∃ x, o = some x ∧ f x = some r := by
  cases o with
  | none => exact absurd h (by simp)
  | some x => exact ⟨x, rfl, h⟩
/-- the letters, run -/
def sw_letA (a1 : Nat → Int32) (p0 p1 : Int32) : Option Int32 :=
  if p0 = 1 then (if (p1 &&& 1) = 0 then some 9 else (if sw_ok (p1 >>> ((1 : Int32) &&& 31)) 10 = true then some (a1 (p1 >>> ((1 : Int32) &&& 31)).toNatClampNeg) else none))
  else (if sw_ok p1 10 = true then some (a1 p1.toNatClampNeg) else none)
def sw_letB (a2 : Nat → Int32) (p0 p1 : Int32) : Option Int32 :=
  if p0 = 0 then (if sw_ok p1 14 = true then some (a2 p1.toNatClampNeg) else none)
  else (if p0 = 1 then (if (p1 &&& 1) = 0 then some 9 else (if sw_ok (p1 >>> ((1 : Int32) &&& 31)) 14 = true then some (a2 (p1 >>> ((1 : Int32) &&& 31)).toNatClampNeg) else none)) else none)
theorem sw_letA_s {post : Int32 → Prop} {f0_m f0_n : Int32} {a1 a2 a3 a4 a5 a6 : Nat → Int32} {p0 p1 r : Int32} (h : sw_letA a1 p0 p1 = some r) (hp : post r) : wpX_letterA post (f0_m, f0_n, a1, a2, a3, a4, a5, a6) p0 p1 := by
  unfold sw_letA at h
  unfold wpX_letterA
  dsimp only
  refine br_c (fun h0 => ?_) (fun h0 => ?_)
  · rw [if_pos h0] at h
    refine br_c (fun h1 => ?_) (fun h1 => ?_)
    · rw [if_pos h1] at h
      cases h
      exact hp
    · rw [if_neg h1] at h
      obtain ⟨k, e⟩ := sw_gd h
      cases e
      exact ⟨sw_okP k, hp⟩
  · rw [if_neg h0] at h
    obtain ⟨k, e⟩ := sw_gd h
    cases e
    exact ⟨sw_okP k, hp⟩
theorem sw_letB_s {post : Int32 → Prop} {f0_m f0_n : Int32} {a1 a2 a3 a4 a5 a6 : Nat → Int32} {p0 p1 r : Int32} (h : sw_letB a2 p0 p1 = some r) (hp : post r) : wpX_letterB post (f0_m, f0_n, a1, a2, a3, a4, a5, a6) p0 p1 := by
  unfold sw_letB at h
  unfold wpX_letterB
  dsimp only
  refine br_c (fun h0 => ?_) (fun h0 => ?_)
  · rw [if_pos h0] at h
    obtain ⟨k, e⟩ := sw_gd h
    cases e
    exact ⟨sw_okP k, hp⟩
  · rw [if_neg h0] at h
    by_cases h2 : p0 = 1
    · rw [if_pos h2] at h
      refine br_t h2 (br_c (fun h1 => ?_) (fun h1 => ?_))
      · rw [if_pos h1] at h
        cases h
        exact hp
      · rw [if_neg h1] at h
        obtain ⟨k, e⟩ := sw_gd h
        cases e
        exact ⟨sw_okP k, hp⟩
    · rw [if_neg h2] at h
      cases h
/-- a cell, run -/
def sw_cell (u : St2) (p0 p1 p2 : Int32) : Option St2 := match u with
  | (f0_m, f0_n, a1, a2, a3, a4, a5, a6) =>
    if sw_ok ((p0 * 20) + p1) 60 = true then (if sw_ok ((p0 * 28) + p2) 84 = true then
      ((sw_letA a1 p0 p1).bind (fun x => (sw_letB a2 p0 p2).bind (fun y =>
        if x = y then some (f0_m, f0_n, a1, a2, a3, a4, upd a5 ((p0 * 20) + p1).toNatClampNeg (a6 ((p0 * 28) + p2).toNatClampNeg), upd a6 ((p0 * 28) + p2).toNatClampNeg (a5 ((p0 * 20) + p1).toNatClampNeg))
        else (if a5 ((p0 * 20) + p1).toNatClampNeg ≤ a6 ((p0 * 28) + p2).toNatClampNeg then some (f0_m, f0_n, a1, a2, a3, a4, a5, a6)
          else some (f0_m, f0_n, a1, a2, a3, a4, upd a5 ((p0 * 20) + p1).toNatClampNeg (a6 ((p0 * 28) + p2).toNatClampNeg), upd a6 ((p0 * 28) + p2).toNatClampNeg (a5 ((p0 * 20) + p1).toNatClampNeg))))))
      else none) else none
theorem sw_cell_s {post : St2 → Prop} {u s : St2} {p0 p1 p2 : Int32} (h : sw_cell u p0 p1 p2 = some s) (hp : post s) : wpX_cell post u p0 p1 p2 := by
  obtain ⟨f0_m, f0_n, a1, a2, a3, a4, a5, a6⟩ := u
  unfold sw_cell at h
  dsimp only at h
  obtain ⟨k1, h⟩ := sw_gd h
  obtain ⟨k2, h⟩ := sw_gd h
  obtain ⟨x, hx, h⟩ := sw_bd h
  obtain ⟨y, hy, h⟩ := sw_bd h
  unfold wpX_cell
  dsimp only
  refine ⟨sw_okP k1, nm_e ⟨sw_okP k2, nm_e (sw_letA_s hx (sw_letB_s hy ?_))⟩⟩
  refine br_c (fun h1 => ?_) (fun h1 => br_c (fun h2 => ?_) (fun h2 => ?_))
  · rw [if_pos h1] at h
    cases h
    exact And.intro (sw_okP k1) (nm_e ⟨sw_okP k2, nm_e hp⟩)
  · rw [if_neg h1, if_pos h2] at h
    cases h
    exact hp
  · rw [if_neg h1, if_neg h2] at h
    cases h
    exact And.intro (sw_okP k1) (nm_e ⟨sw_okP k2, nm_e hp⟩)
/-- a row's and a column's loop, run -/
def sw_rowL (x1 x2 : Int32) : Nat → Int32 → St2 → Option St2
  | 0, _, _ => none
  | n + 1, x3, u => if sw_ok x1 3 = true then (if u.2.2.2.2.2.1 x1.toNatClampNeg ≤ x3 then some u else (sw_cell u x1 x2 x3).bind (fun v => sw_rowL x1 x2 n (x3 + 1) v)) else none
def sw_colL (x1 x2 : Int32) : Nat → Int32 → St2 → Option St2
  | 0, _, _ => none
  | n + 1, x3, u => if sw_ok x1 3 = true then (if u.2.2.2.2.1 x1.toNatClampNeg ≤ x3 then some u else (sw_cell u x1 x3 x2).bind (fun v => sw_colL x1 x2 n (x3 + 1) v)) else none
theorem sw_rowL_s {post : St2 → Prop} {x1 x2 : Int32} {s : St2} (hp : post s) : ∀ (n : Nat) (x3 f0_m f0_n : Int32) (a1 a2 a3 a4 a5 a6 : Nat → Int32), sw_rowL x1 x2 n x3 (f0_m, f0_n, a1, a2, a3, a4, a5, a6) = some s → wX_addRow_32 post x1 x2 n x3 f0_m f0_n a1 a2 a3 a4 a5 a6 := by
  intro n
  induction n with
  | zero =>
    intro x3 f0_m f0_n a1 a2 a3 a4 a5 a6 h
    cases h
  | succ n ih =>
    intro x3 f0_m f0_n a1 a2 a3 a4 a5 a6 h
    unfold sw_rowL at h
    dsimp only at h
    obtain ⟨k, h⟩ := sw_gd h
    unfold wX_addRow_32
    refine And.intro (sw_okP k) (br_c (fun h1 => ?_) (fun h1 => ?_))
    · rw [if_pos h1] at h
      cases h
      exact hp
    · rw [if_neg h1] at h
      obtain ⟨⟨g0_m, g0_n, b1, b2, b3, b4, b5, b6⟩, hv, h⟩ := sw_bd h
      refine sw_cell_s hv ?_
      intro y ey
      subst ey
      exact ih _ _ _ _ _ _ _ _ _ h
theorem sw_colL_s {post : St2 → Prop} {x1 x2 : Int32} {s : St2} (hp : post s) : ∀ (n : Nat) (x3 f0_m f0_n : Int32) (a1 a2 a3 a4 a5 a6 : Nat → Int32), sw_colL x1 x2 n x3 (f0_m, f0_n, a1, a2, a3, a4, a5, a6) = some s → wX_addColumn_30 post x1 x2 n x3 f0_m f0_n a1 a2 a3 a4 a5 a6 := by
  intro n
  induction n with
  | zero =>
    intro x3 f0_m f0_n a1 a2 a3 a4 a5 a6 h
    cases h
  | succ n ih =>
    intro x3 f0_m f0_n a1 a2 a3 a4 a5 a6 h
    unfold sw_colL at h
    dsimp only at h
    obtain ⟨k, h⟩ := sw_gd h
    unfold wX_addColumn_30
    refine And.intro (sw_okP k) (br_c (fun h1 => ?_) (fun h1 => ?_))
    · rw [if_pos h1] at h
      cases h
      exact hp
    · rw [if_neg h1] at h
      obtain ⟨⟨g0_m, g0_n, b1, b2, b3, b4, b5, b6⟩, hv, h⟩ := sw_bd h
      refine sw_cell_s hv ?_
      intro y ey
      subst ey
      exact ih _ _ _ _ _ _ _ _ _ h
/-- a row, a column, run -/
def sw_row (u : St2) (p0 : Int32) : Option St2 := match u with
  | (f0_m, f0_n, a1, a2, a3, a4, a5, a6) =>
    if sw_ok p0 3 = true then (if sw_ok ((p0 * 20) + a3 p0.toNatClampNeg) 60 = true then
      sw_rowL p0 (a3 p0.toNatClampNeg) 6 0 (f0_m, f0_n, a1, a2, upd a3 p0.toNatClampNeg (a3 p0.toNatClampNeg + 1), a4, upd a5 ((p0 * 20) + a3 p0.toNatClampNeg).toNatClampNeg ((-1) - a3 p0.toNatClampNeg), a6)
      else none) else none
def sw_col (u : St2) (p0 : Int32) : Option St2 := match u with
  | (f0_m, f0_n, a1, a2, a3, a4, a5, a6) =>
    if sw_ok p0 3 = true then (if sw_ok ((p0 * 28) + a4 p0.toNatClampNeg) 84 = true then
      sw_colL p0 (a4 p0.toNatClampNeg) 6 0 (f0_m, f0_n, a1, a2, a3, upd a4 p0.toNatClampNeg (a4 p0.toNatClampNeg + 1), a5, upd a6 ((p0 * 28) + a4 p0.toNatClampNeg).toNatClampNeg (a4 p0.toNatClampNeg))
      else none) else none
theorem sw_row_s {post : St2 → Prop} {u s : St2} {p0 : Int32} (h : sw_row u p0 = some s) (hp : post s) : wpX_addRow post u p0 := by
  obtain ⟨f0_m, f0_n, a1, a2, a3, a4, a5, a6⟩ := u
  unfold sw_row at h
  dsimp only at h
  obtain ⟨k1, h⟩ := sw_gd h
  obtain ⟨k2, h⟩ := sw_gd h
  unfold wpX_addRow
  dsimp only
  exact ⟨sw_okP k1, nm_e ⟨sw_okP k2, nm_e ⟨sw_okP k1, nm_e ⟨6, sw_rowL_s hp _ _ _ _ _ _ _ _ _ _ h⟩⟩⟩⟩
theorem sw_col_s {post : St2 → Prop} {u s : St2} {p0 : Int32} (h : sw_col u p0 = some s) (hp : post s) : wpX_addColumn post u p0 := by
  obtain ⟨f0_m, f0_n, a1, a2, a3, a4, a5, a6⟩ := u
  unfold sw_col at h
  dsimp only at h
  obtain ⟨k1, h⟩ := sw_gd h
  obtain ⟨k2, h⟩ := sw_gd h
  unfold wpX_addColumn
  dsimp only
  exact ⟨sw_okP k1, nm_e ⟨sw_okP k2, nm_e ⟨sw_okP k1, nm_e ⟨6, sw_colL_s hp _ _ _ _ _ _ _ _ _ _ h⟩⟩⟩⟩
end
section
/-- the counting loops, run -/
def sw_c68 (a3 a5 : Nat → Int32) (x1 x2 x3 x5 : Int32) : Nat → Int32 → Int32 → Option Int32
  | 0, _, _ => none
  | n + 1, x4, x6 => if sw_ok x1 3 = true then (if a3 x1.toNatClampNeg ≤ x6 then some ((x3 - x2) - x4) else
      (if sw_ok ((x1 * 20) + x6) 60 = true then (if a5 ((x1 * 20) + x6).toNatClampNeg < x2 then sw_c68 a3 a5 x1 x2 x3 x5 n x4 (x6 + 1) else
        (if x3 ≤ x5 - x6 then sw_c68 a3 a5 x1 x2 x3 x5 n x4 (x6 + 1) else sw_c68 a3 a5 x1 x2 x3 x5 n (x4 + 1) (x6 + 1))) else none)) else none
def sw_c23 (a3 a4 a5 a6 : Nat → Int32) (x1 x2 x3 x5 : Int32) : Nat → Int32 → Int32 → Option Int32
  | 0, _, _ => none
  | n + 1, x4, x6 => if sw_ok x1 3 = true then (if a4 x1.toNatClampNeg ≤ x6 then sw_c68 a3 a5 x1 x2 x3 x5 6 x4 0 else
      (if sw_ok ((x1 * 28) + x6) 84 = true then (if a6 ((x1 * 28) + x6).toNatClampNeg < x2 then sw_c23 a3 a4 a5 a6 x1 x2 x3 x5 n x4 (x6 + 1) else
        (if x3 ≤ x6 then sw_c23 a3 a4 a5 a6 x1 x2 x3 x5 n x4 (x6 + 1) else sw_c23 a3 a4 a5 a6 x1 x2 x3 x5 n (x4 + 1) (x6 + 1))) else none)) else none
theorem sw_c68_s {post : Int32 → Prop} {x1 x2 x3 x5 r f0_m f0_n : Int32} {a1 a2 a3 a4 a5 a6 : Nat → Int32} (hp : post r) : ∀ (n : Nat) (x4 x6 : Int32), sw_c68 a3 a5 x1 x2 x3 x5 n x4 x6 = some r → wX_common_68 post x1 x2 x3 x5 f0_m f0_n a1 a2 a3 a4 a5 a6 n x4 x6 := by
  intro n
  induction n with
  | zero =>
    intro x4 x6 h
    cases h
  | succ n ih =>
    intro x4 x6 h
    unfold sw_c68 at h
    obtain ⟨k, h⟩ := sw_gd h
    unfold wX_common_68
    refine And.intro (sw_okP k) (br_c (fun h1 => ?_) (fun h1 => ?_))
    · rw [if_pos h1] at h
      cases h
      exact hp
    · rw [if_neg h1] at h
      obtain ⟨k2, h⟩ := sw_gd h
      refine And.intro (sw_okP k2) (br_c (fun h2 => ?_) (fun h2 => br_c (fun h3 => ?_) (fun h3 => ?_)))
      · rw [if_pos h2] at h
        exact nm_e (ih _ _ h)
      · rw [if_neg h2, if_pos h3] at h
        exact nm_e (ih _ _ h)
      · rw [if_neg h2, if_neg h3] at h
        exact nm_e (nm_e (ih _ _ h))
theorem sw_c23_s {post : Int32 → Prop} {x1 x2 x3 x5 r f0_m f0_n : Int32} {a1 a2 a3 a4 a5 a6 : Nat → Int32} (hp : post r) : ∀ (n : Nat) (x4 x6 : Int32), sw_c23 a3 a4 a5 a6 x1 x2 x3 x5 n x4 x6 = some r → wX_common_23 post x1 x2 x3 x5 f0_m f0_n a1 a2 a3 a4 a5 a6 n x4 x6 := by
  intro n
  induction n with
  | zero =>
    intro x4 x6 h
    cases h
  | succ n ih =>
    intro x4 x6 h
    unfold sw_c23 at h
    obtain ⟨k, h⟩ := sw_gd h
    unfold wX_common_23
    refine And.intro (sw_okP k) (br_c (fun h1 => ?_) (fun h1 => ?_))
    · rw [if_pos h1] at h
      exact ⟨6, sw_c68_s hp _ _ _ h⟩
    · rw [if_neg h1] at h
      obtain ⟨k2, h⟩ := sw_gd h
      refine And.intro (sw_okP k2) (br_c (fun h2 => ?_) (fun h2 => br_c (fun h3 => ?_) (fun h3 => ?_)))
      · rw [if_pos h2] at h
        exact nm_e (ih _ _ h)
      · rw [if_neg h2, if_pos h3] at h
        exact nm_e (ih _ _ h)
      · rw [if_neg h2, if_neg h3] at h
        exact nm_e (nm_e (ih _ _ h))
def sw_com (u : St2) (p0 p1 p2 : Int32) : Option Int32 := match u with
  | (_, _, _, _, a3, a4, a5, a6) => if sw_ok p0 3 = true then sw_c23 a3 a4 a5 a6 p0 p1 p2 (((a4 p0.toNatClampNeg) + (a3 p0.toNatClampNeg)) - 1) 6 0 0 else none
theorem sw_com_s {post : Int32 → Prop} {u : St2} {p0 p1 p2 r : Int32} (h : sw_com u p0 p1 p2 = some r) (hp : post r) : wpX_common post u p0 p1 p2 := by
  obtain ⟨f0_m, f0_n, a1, a2, a3, a4, a5, a6⟩ := u
  unfold sw_com at h
  dsimp only at h
  obtain ⟨k1, h⟩ := sw_gd h
  unfold wpX_common
  dsimp only
  exact ⟨sw_okP k1, sw_okP k1, nm_e ⟨6, sw_c23_s hp _ _ _ h⟩⟩
/-- combing anew, run -/
def sw_k37 (x1 x3 : Int32) : Nat → Int32 → St2 → Option St2
  | 0, _, _ => none
  | n + 1, x4, u => if x3 ≤ x4 then some u else (sw_col u x1).bind (fun v => sw_k37 x1 x3 n (x4 + 1) v)
def sw_k17 (x1 x2 x3 : Int32) : Nat → Int32 → St2 → Option St2
  | 0, _, _ => none
  | n + 1, x4, u => if x2 ≤ x4 then sw_k37 x1 x3 6 0 u else (sw_row u x1).bind (fun v => sw_k17 x1 x2 x3 n (x4 + 1) v)
theorem sw_k37_s {post : St2 → Prop} {x1 x3 : Int32} {s : St2} (hp : post s) : ∀ (n : Nat) (x4 f0_m f0_n : Int32) (a1 a2 a3 a4 a5 a6 : Nat → Int32), sw_k37 x1 x3 n x4 (f0_m, f0_n, a1, a2, a3, a4, a5, a6) = some s → wX_combAll_37 post x1 x3 n x4 f0_m f0_n a1 a2 a3 a4 a5 a6 := by
  intro n
  induction n with
  | zero =>
    intro x3 f0_m f0_n a1 a2 a3 a4 a5 a6 h
    cases h
  | succ n ih =>
    intro x4 f0_m f0_n a1 a2 a3 a4 a5 a6 h
    unfold sw_k37 at h
    unfold wX_combAll_37
    refine br_c (fun h1 => ?_) (fun h1 => ?_)
    · rw [if_pos h1] at h
      cases h
      exact hp
    · rw [if_neg h1] at h
      obtain ⟨⟨g0_m, g0_n, b1, b2, b3, b4, b5, b6⟩, hv, h⟩ := sw_bd h
      refine sw_col_s hv ?_
      intro y ey
      subst ey
      exact ih _ _ _ _ _ _ _ _ _ h
theorem sw_k17_s {post : St2 → Prop} {x1 x2 x3 : Int32} {s : St2} (hp : post s) : ∀ (n : Nat) (x4 f0_m f0_n : Int32) (a1 a2 a3 a4 a5 a6 : Nat → Int32), sw_k17 x1 x2 x3 n x4 (f0_m, f0_n, a1, a2, a3, a4, a5, a6) = some s → wX_combAll_17 post x1 x2 x3 n x4 f0_m f0_n a1 a2 a3 a4 a5 a6 := by
  intro n
  induction n with
  | zero =>
    intro x3 f0_m f0_n a1 a2 a3 a4 a5 a6 h
    cases h
  | succ n ih =>
    intro x4 f0_m f0_n a1 a2 a3 a4 a5 a6 h
    unfold sw_k17 at h
    unfold wX_combAll_17
    refine br_c (fun h1 => ?_) (fun h1 => ?_)
    · rw [if_pos h1] at h
      exact ⟨6, sw_k37_s hp _ _ _ _ _ _ _ _ _ _ h⟩
    · rw [if_neg h1] at h
      obtain ⟨⟨g0_m, g0_n, b1, b2, b3, b4, b5, b6⟩, hv, h⟩ := sw_bd h
      refine sw_row_s hv ?_
      intro y ey
      subst ey
      exact ih _ _ _ _ _ _ _ _ _ h
def sw_all (u : St2) (p0 p1 p2 : Int32) : Option St2 := match u with
  | (f0_m, f0_n, a1, a2, a3, a4, a5, a6) => if sw_ok p0 3 = true then sw_k17 p0 p1 p2 6 0 (f0_m, f0_n, a1, a2, upd a3 p0.toNatClampNeg 0, upd a4 p0.toNatClampNeg 0, a5, a6) else none
theorem sw_all_s {post : St2 → Prop} {u s : St2} {p0 p1 p2 : Int32} (h : sw_all u p0 p1 p2 = some s) (hp : post s) : wpX_combAll post u p0 p1 p2 := by
  obtain ⟨f0_m, f0_n, a1, a2, a3, a4, a5, a6⟩ := u
  unfold sw_all at h
  dsimp only at h
  obtain ⟨k1, h⟩ := sw_gd h
  unfold wpX_combAll
  dsimp only
  exact ⟨sw_okP k1, nm_e ⟨sw_okP k1, nm_e ⟨6, sw_k17_s hp _ _ _ _ _ _ _ _ _ _ h⟩⟩⟩
def sw_again (u : St2) : Option St2 := (sw_all u 0 u.1 u.2.1).bind (fun v => sw_all v 1 (2 * v.1) (2 * v.2.1))
theorem sw_again_s {post : St2 → Prop} {u s : St2} (h : sw_again u = some s) (hp : post s) : wpX_combAgain post u := by
  obtain ⟨f0_m, f0_n, a1, a2, a3, a4, a5, a6⟩ := u
  unfold sw_again at h
  obtain ⟨⟨g0_m, g0_n, b1, b2, b3, b4, b5, b6⟩, hv, h⟩ := sw_bd h
  obtain ⟨c0_m, c0_n, c1, c2, c3, c4, c5, c6⟩ := s
  unfold wpX_combAgain
  dsimp only
  refine sw_all_s hv ?_
  dsimp only
  refine sw_all_s h ?_
  exact hp
/-- the letters' check -/
theorem sw_bl0 {post : Int32 → Prop} {u : St2} {c : Int32} (h1 : ¬ c < 0) (h2 : c ≤ 3) (hp : post 0) : wpX_badLetter post u c := by
  obtain ⟨f0_m, f0_n, a1, a2, a3, a4, a5, a6⟩ := u
  exact br_f h1 (br_t h2 hp)
theorem sw_bl1 {post : Int32 → Prop} {u : St2} {c : Int32} (h : c < 0 ∨ ¬ c ≤ 3) (hp : post 1) : wpX_badLetter post u c := by
  obtain ⟨f0_m, f0_n, a1, a2, a3, a4, a5, a6⟩ := u
  exact br_c (fun _ => hp) (fun h1 => br_f (h.resolve_left h1) hp)
/-- growing, run -/
def sw_gA (u : St2) (c : Int32) : Option St2 := match u with
  | (f0_m, f0_n, a1, a2, a3, a4, a5, a6) => if sw_ok f0_m 10 = true then
    ((sw_row (f0_m + 1, f0_n, upd a1 f0_m.toNatClampNeg c, a2, a3, a4, a5, a6) 0).bind (fun v => (sw_row v 1).bind (fun w => sw_row w 1))) else none
def sw_gB (u : St2) (c : Int32) : Option St2 := match u with
  | (f0_m, f0_n, a1, a2, a3, a4, a5, a6) => if sw_ok f0_n 14 = true then
    ((sw_col (f0_m, f0_n + 1, a1, upd a2 f0_n.toNatClampNeg c, a3, a4, a5, a6) 0).bind (fun v => (sw_col v 1).bind (fun w => sw_col w 1))) else none
theorem sw_gA_s {post : Int32 → St2 → Prop} {u s : St2} {c : Int32} (h1 : ¬ c < 0) (h2 : c ≤ 3) (hm : ¬ u.1 = 10) (h : sw_gA u c = some s) (hp : post s.1 s) : wpX_growA post u c := by
  obtain ⟨f0_m, f0_n, a1, a2, a3, a4, a5, a6⟩ := u
  unfold sw_gA at h
  dsimp only at h hm
  obtain ⟨k, h⟩ := sw_gd h
  obtain ⟨⟨g0_m, g0_n, b1, b2, b3, b4, b5, b6⟩, hv, h⟩ := sw_bd h
  obtain ⟨⟨e0_m, e0_n, e1, e2, e3, e4, e5, e6⟩, hw, h⟩ := sw_bd h
  obtain ⟨c0_m, c0_n, c1, c2, c3, c4, c5, c6⟩ := s
  unfold wpX_growA
  dsimp only
  refine sw_bl0 h1 h2 (br_t rfl (br_f hm ⟨sw_okP k, nm_e (nm_e (sw_row_s hv ?_))⟩))
  dsimp only
  refine sw_row_s hw ?_
  dsimp only
  refine sw_row_s h ?_
  exact hp
theorem sw_gB_s {post : Int32 → St2 → Prop} {u s : St2} {c : Int32} (h1 : ¬ c < 0) (h2 : c ≤ 3) (hm : ¬ u.2.1 = 14) (h : sw_gB u c = some s) (hp : post s.2.1 s) : wpX_growB post u c := by
  obtain ⟨f0_m, f0_n, a1, a2, a3, a4, a5, a6⟩ := u
  unfold sw_gB at h
  dsimp only at h hm
  obtain ⟨k, h⟩ := sw_gd h
  obtain ⟨⟨g0_m, g0_n, b1, b2, b3, b4, b5, b6⟩, hv, h⟩ := sw_bd h
  obtain ⟨⟨e0_m, e0_n, e1, e2, e3, e4, e5, e6⟩, hw, h⟩ := sw_bd h
  obtain ⟨c0_m, c0_n, c1, c2, c3, c4, c5, c6⟩ := s
  unfold wpX_growB
  dsimp only
  refine sw_bl0 h1 h2 (br_t rfl (br_f hm ⟨sw_okP k, nm_e (nm_e (sw_col_s hv ?_))⟩))
  dsimp only
  refine sw_col_s hw ?_
  dsimp only
  refine sw_col_s h ?_
  exact hp
theorem sw_gA_n {post : Int32 → St2 → Prop} {u : St2} {c : Int32} (h : c < 0 ∨ ¬ c ≤ 3) (hp : post (-1) u) : wpX_growA post u c := by
  obtain ⟨f0_m, f0_n, a1, a2, a3, a4, a5, a6⟩ := u
  unfold wpX_growA
  dsimp only
  exact sw_bl1 h (br_f (by decide) hp)
theorem sw_gB_n {post : Int32 → St2 → Prop} {u : St2} {c : Int32} (h : c < 0 ∨ ¬ c ≤ 3) (hp : post (-1) u) : wpX_growB post u c := by
  obtain ⟨f0_m, f0_n, a1, a2, a3, a4, a5, a6⟩ := u
  unfold wpX_growB
  dsimp only
  exact sw_bl1 h (br_f (by decide) hp)
/-- the questions, over any state -/
theorem sw_cB_n {post : Int32 → Prop} {u : St2} {i j : Int32} (h : i < 0 ∨ j < i ∨ ¬ j ≤ u.2.1) (hp : post (-1)) : wpX_commonB post u i j := by
  obtain ⟨f0_m, f0_n, a1, a2, a3, a4, a5, a6⟩ := u
  unfold wpX_commonB
  dsimp only
  unfold wpX_badStretch
  dsimp only
  have N : ((1 : Int32) = 0 → wpX_common (fun r_3 => post r_3) (f0_m, f0_n, a1, a2, a3, a4, a5, a6) 0 i j) ∧ (¬ (1 : Int32) = 0 → post (-1)) := br_f (by decide) hp
  exact br_c (fun _ => N) (fun h1 => br_c (fun _ => N) (fun h2 => br_f ((h.resolve_left h1).resolve_left h2) N))
theorem sw_cB_s {post : Int32 → Prop} {u : St2} {i j r : Int32} (h1 : ¬ i < 0) (h2 : ¬ j < i) (h3 : j ≤ u.2.1) (h : sw_com u 0 i j = some r) (hp : post r) : wpX_commonB post u i j := by
  obtain ⟨f0_m, f0_n, a1, a2, a3, a4, a5, a6⟩ := u
  unfold wpX_commonB
  dsimp only
  unfold wpX_badStretch
  dsimp only
  exact br_f h1 (br_f h2 (br_t h3 (br_t rfl (sw_com_s h hp))))
theorem sw_cE_n {post : Int32 → Prop} {u : St2} {k j : Int32} (h : k < 0 ∨ u.1 < k ∨ j < 0 ∨ ¬ j ≤ u.2.1) (hp : post (-1)) : wpX_commonEnd post u k j := by
  obtain ⟨f0_m, f0_n, a1, a2, a3, a4, a5, a6⟩ := u
  unfold wpX_commonEnd
  dsimp only
  unfold wpX_badCounts
  dsimp only
  refine br_c (fun _ => br_f (by decide) hp) (fun h1 => br_c (fun _ => br_f (by decide) hp) (fun h2 => br_c (fun _ => br_f (by decide) hp) (fun h3 => br_f (((h.resolve_left h1).resolve_left h2).resolve_left h3) (br_f (by decide) hp))))
theorem sw_cE_s {post : Int32 → Prop} {u : St2} {k j r : Int32} (h1 : ¬ k < 0) (h2 : ¬ u.1 < k) (h3 : ¬ j < 0) (h4 : j ≤ u.2.1) (h : (sw_com u 0 (-(u.1 - k)) j).bind (fun q => some (q - (u.1 - k))) = some r) (hp : post r) : wpX_commonEnd post u k j := by
  obtain ⟨f0_m, f0_n, a1, a2, a3, a4, a5, a6⟩ := u
  obtain ⟨q, hq, e⟩ := sw_bd h
  cases e
  unfold wpX_commonEnd
  dsimp only
  unfold wpX_badCounts
  dsimp only
  exact br_f h1 (br_f h2 (br_f h3 (br_t h4 (br_t rfl (nm_e (sw_com_s hq hp))))))
theorem sw_ch_n {post : Int32 → Prop} {u : St2} {i j : Int32} (h : i < 0 ∨ j < i ∨ ¬ j ≤ u.1) (hp : post (-1)) : wpX_changesA post u i j := by
  obtain ⟨f0_m, f0_n, a1, a2, a3, a4, a5, a6⟩ := u
  unfold wpX_changesA
  dsimp only
  unfold wpX_badStretch
  dsimp only
  refine br_c (fun _ => br_f (by decide) hp) (fun h1 => br_c (fun _ => br_f (by decide) hp) (fun h2 => br_f ((h.resolve_left h1).resolve_left h2) (br_f (by decide) hp)))
def sw_chg (u : St2) (i j : Int32) : Option Int32 :=
  (sw_com u 1 (-(2 * i)) (u.2.2.2.2.2.1 1 + (u.2.2.2.2.1 1 - 2 * j))).bind (fun q => some (((u.2.1 + j) - i) - ((q - 2 * i) - (u.2.2.2.2.1 1 - 2 * j))))
theorem sw_ch_s {post : Int32 → Prop} {u : St2} {i j r : Int32} (h1 : ¬ i < 0) (h2 : ¬ j < i) (h3 : j ≤ u.1) (h : sw_chg u i j = some r) (hp : post r) : wpX_changesA post u i j := by
  obtain ⟨f0_m, f0_n, a1, a2, a3, a4, a5, a6⟩ := u
  unfold sw_chg at h
  obtain ⟨q, hq, e⟩ := sw_bd h
  cases e
  unfold wpX_changesA
  dsimp only
  unfold wpX_badStretch wpX_commonRows
  dsimp only
  have K : vp_in (1 : Int32) 3 := sw_okP (by decide)
  exact br_f h1 (br_f h2 (br_t h3 (br_t rfl ⟨K, nm_e ⟨K, sw_com_s hq hp⟩⟩)))
theorem sw_pA_n {post : Int32 → St2 → Prop} {u : St2} {i d : Int32} (h : i < 0 ∨ u.1 ≤ i ∨ d < 0 ∨ ¬ d ≤ 3) (hp : post (-1) u) : wpX_putA post u i d := by
  obtain ⟨f0_m, f0_n, a1, a2, a3, a4, a5, a6⟩ := u
  unfold wpX_putA
  dsimp only
  refine br_c (fun _ => hp) (fun h1 => br_c (fun _ => hp) (fun h2 => sw_bl1 ((h.resolve_left h1).resolve_left h2) (br_f (by decide) hp)))
def sw_put (u : St2) (i d : Int32) : Option St2 := match u with
  | (f0_m, f0_n, a1, a2, a3, a4, a5, a6) => if sw_ok i 10 = true then (if a1 i.toNatClampNeg = d then some u else sw_again (f0_m, f0_n, upd a1 i.toNatClampNeg d, a2, a3, a4, a5, a6)) else none
theorem sw_pA_s {post : Int32 → St2 → Prop} {u s : St2} {i d : Int32} (h1 : ¬ i < 0) (h2 : ¬ u.1 ≤ i) (h3 : ¬ d < 0) (h4 : d ≤ 3) (h : sw_put u i d = some s) (hp : ∀ v, post (u.2.2.1 i.toNatClampNeg) v) : wpX_putA post u i d := by
  obtain ⟨f0_m, f0_n, a1, a2, a3, a4, a5, a6⟩ := u
  unfold sw_put at h
  dsimp only at h hp
  obtain ⟨k, h⟩ := sw_gd h
  unfold wpX_putA
  dsimp only
  refine br_f h1 (br_f h2 (sw_bl0 h3 h4 (br_t rfl ⟨sw_okP k, nm_e ⟨sw_okP k, nm_e (br_c (fun _ => hp _) (fun h5 => ?_))⟩⟩)))
  rw [if_neg h5] at h
  obtain ⟨c0_m, c0_n, c1, c2, c3, c4, c5, c6⟩ := s
  refine sw_again_s h ?_
  exact hp _
end
section
/-- the new object; the flags; the objects behind growA and growB: 4 stands for every letter that isn't one -/
def sw_u0 : St2 := (0, 0, (fun _ => 0), (fun _ => 0), (fun _ => 0), (fun _ => 0), (fun _ => 0), (fun _ => 0))
def sw_fl (x : Nat) : Int32 := if x < 4 then 1 else 0
def sw_rt (x : Nat) : Int32 := if x < 4 then 1 else -1
def sw_sA (x : Nat) : St2 := if x < 4 then (sw_gA sw_u0 (nI x)).getD sw_u0 else sw_u0
def sw_sB (x y : Nat) : St2 := if y < 4 then (sw_gB (sw_sA x) (nI y)).getD sw_u0 else sw_sA x
theorem sw_some {α : Type} {o : Option α} {d : α} (h : o.isSome = true) : o = some (o.getD d) := by
  cases o with
  | none => cases h
  | some x => rfl
def sw_is (o : Option Int32) (r : Int32) : Bool := match o with
  | some q => decide (q = r)
  | none => false
theorem sw_isP {o : Option Int32} {r : Int32} (h : sw_is o r = true) : o = some r := by
  cases o with
  | none => cases h
  | some q => rw [show q = r from of_decide_eq_true h]
theorem sw_22 {B : Nat → Nat → Bool} (h : (B 0 0 && (B 0 1 && (B 1 0 && B 1 1))) = true) (a : Nat) (ha : a < 2) (b : Nat) (hb : b < 2) : B a b = true := by
  rw [Bool.and_eq_true, Bool.and_eq_true, Bool.and_eq_true] at h
  obtain ⟨h1, h2, h3, h4⟩ := h
  rcases (show a = 0 ∨ a = 1 by omega) with e | e
  · rcases (show b = 0 ∨ b = 1 by omega) with f | f
    · rw [e, f]
      exact h1
    · rw [e, f]
      exact h2
  · rcases (show b = 0 ∨ b = 1 by omega) with f | f
    · rw [e, f]
      exact h3
    · rw [e, f]
      exact h4
theorem sw_tA : ∀ x, x < 4 → (sw_gA sw_u0 (nI x)).isSome = true ∧ (sw_sA x).1 = 1 := by decide +kernel
theorem sw_tB : ∀ x, x < 5 → ¬ (sw_sA x).2.1 = 14 ∧ ∀ y, y < 4 → (sw_gB (sw_sA x) (nI y)).isSome = true ∧ (sw_sB x y).2.1 = 1 := by decide +kernel
theorem sw_tS : ∀ x, x < 5 → ∀ y, y < 5 → (sw_sB x y).1 = sw_fl x ∧ (sw_sB x y).2.1 = sw_fl y ∧ (x < 4 → (sw_sB x y).2.2.1 0 = nI x) := by decide +kernel
def sw_bC (x y b a : Nat) : Bool := if (nI b ≤ sw_fl y ∧ a ≤ b) then sw_is (sw_com (sw_sB x y) 0 (nI a) (nI b)) (if x = y ∧ x < 4 ∧ nI b - nI a = 1 then 1 else 0) else true
def sw_lC (x y : Nat) : Bool := sw_bC x y 0 0 && (sw_bC x y 0 1 && (sw_bC x y 1 0 && sw_bC x y 1 1))
theorem sw_kC : ∀ x, x < 5 → ∀ y, y < 5 → sw_lC x y = true := by decide +kernel
theorem sw_tC (x : Nat) (hx : x < 5) (y : Nat) (hy : y < 5) : ∀ b, b < 2 → ∀ a, a < 2 → (nI b ≤ sw_fl y ∧ a ≤ b) → sw_com (sw_sB x y) 0 (nI a) (nI b) = some (if x = y ∧ x < 4 ∧ nI b - nI a = 1 then 1 else 0) := by
  intro b hb a ha g
  have h : sw_bC x y b a = true := sw_22 (B := sw_bC x y) (sw_kC x hx y hy) b hb a ha
  unfold sw_bC at h
  rw [if_pos g] at h
  exact sw_isP h
def sw_bE (x y a b : Nat) : Bool := if (nI a ≤ sw_fl x ∧ nI b ≤ sw_fl y) then sw_is ((sw_com (sw_sB x y) 0 (-((sw_sB x y).1 - nI a)) (nI b)).bind (fun q => some (q - ((sw_sB x y).1 - nI a)))) (if x = y ∧ x < 4 ∧ nI a = 1 ∧ nI b = 1 then 1 else 0) else true
def sw_lE (x y : Nat) : Bool := sw_bE x y 0 0 && (sw_bE x y 0 1 && (sw_bE x y 1 0 && sw_bE x y 1 1))
theorem sw_kE : ∀ x, x < 5 → ∀ y, y < 5 → sw_lE x y = true := by decide +kernel
theorem sw_tE (x : Nat) (hx : x < 5) (y : Nat) (hy : y < 5) : ∀ a, a < 2 → ∀ b, b < 2 → (nI a ≤ sw_fl x ∧ nI b ≤ sw_fl y) → (sw_com (sw_sB x y) 0 (-((sw_sB x y).1 - nI a)) (nI b)).bind (fun q => some (q - ((sw_sB x y).1 - nI a))) = some (if x = y ∧ x < 4 ∧ nI a = 1 ∧ nI b = 1 then 1 else 0) := by
  intro a ha b hb g
  have h : sw_bE x y a b = true := sw_22 (B := sw_bE x y) (sw_kE x hx y hy) a ha b hb
  unfold sw_bE at h
  rw [if_pos g] at h
  exact sw_isP h
def sw_bH (x y b a : Nat) : Bool := if (nI b ≤ sw_fl x ∧ a ≤ b) then sw_is (sw_chg (sw_sB x y) (nI a) (nI b)) (if nI b - nI a = 1 then (if x = y ∧ x < 4 then 0 else 1) else sw_fl y) else true
def sw_lH (x y : Nat) : Bool := sw_bH x y 0 0 && (sw_bH x y 0 1 && (sw_bH x y 1 0 && sw_bH x y 1 1))
theorem sw_kH : ∀ x, x < 5 → ∀ y, y < 5 → sw_lH x y = true := by decide +kernel
theorem sw_tH (x : Nat) (hx : x < 5) (y : Nat) (hy : y < 5) : ∀ b, b < 2 → ∀ a, a < 2 → (nI b ≤ sw_fl x ∧ a ≤ b) → sw_chg (sw_sB x y) (nI a) (nI b) = some (if nI b - nI a = 1 then (if x = y ∧ x < 4 then 0 else 1) else sw_fl y) := by
  intro b hb a ha g
  have h : sw_bH x y b a = true := sw_22 (B := sw_bH x y) (sw_kH x hx y hy) b hb a ha
  unfold sw_bH at h
  rw [if_pos g] at h
  exact sw_isP h
theorem sw_tP : ∀ x, x < 4 → ∀ y, y < 4 → (sw_put (sw_sB x y) 0 (nI y)).isSome = true := by decide +kernel
/-- which letter it is -/
def sw_rep (c : Int32) (x : Nat) : Prop := (x < 4 ∧ c = nI x ∧ ¬ c < 0 ∧ c ≤ 3) ∨ (x = 4 ∧ (c < 0 ∨ ¬ c ≤ 3))
theorem sw_repE (c : Int32) : ∃ x, x < 5 ∧ sw_rep c x := by
  by_cases h : c < 0
  · exact ⟨4, by omega, Or.inr ⟨rfl, Or.inl h⟩⟩
  · by_cases h3 : c ≤ 3
    · obtain ⟨j, hj, e⟩ := nI_of2 (M := 3) (n := 3) (by decide) h h3
      exact ⟨j, by omega, Or.inl ⟨by omega, e, h, h3⟩⟩
    · exact ⟨4, by omega, Or.inr ⟨rfl, Or.inr h3⟩⟩
/-- what each call answers, over the tables -/
def sw_ec (x y : Nat) (i j : Int32) : Int32 := if i < 0 ∨ j < i ∨ sw_fl y < j then -1 else (if x = y ∧ x < 4 ∧ j - i = 1 then 1 else 0)
def sw_ee (x y : Nat) (k j : Int32) : Int32 := if k < 0 ∨ sw_fl x < k ∨ j < 0 ∨ sw_fl y < j then -1 else (if x = y ∧ x < 4 ∧ k = 1 ∧ j = 1 then 1 else 0)
def sw_eh (x y : Nat) (i j : Int32) : Int32 := if i < 0 ∨ j < i ∨ sw_fl x < j then -1 else (if j - i = 1 then (if x = y ∧ x < 4 then 0 else 1) else sw_fl y)
def sw_ep (x y : Nat) (c i : Int32) : Int32 := if x < 4 ∧ i = 0 ∧ y < 4 then c else -1
theorem sw_fl1 {x : Nat} (h : x < 4) : sw_fl x = 1 := if_pos h
theorem sw_fl0 {x : Nat} (h : ¬ x < 4) : sw_fl x = 0 := if_neg h
theorem sw_le1 {z : Int32} {y : Nat} (h0 : ¬ z < 0) (h : z ≤ sw_fl y) : ∃ b, b < 2 ∧ z = nI b := by
  have h1 : z ≤ 1 := by
    by_cases hy : y < 4
    · rw [sw_fl1 hy] at h
      exact h
    · rw [sw_fl0 hy] at h
      exact Int32.le_trans h (by decide)
  obtain ⟨b, hb, e⟩ := nI_of2 (M := 1) (n := 1) (by decide) h0 h1
  exact ⟨b, by omega, e⟩
theorem sw_ij {i j : Int32} {y : Nat} (h1 : ¬ i < 0) (h2 : ¬ j < i) (h3 : j ≤ sw_fl y) : ∃ a b, a < 2 ∧ b < 2 ∧ a ≤ b ∧ i = nI a ∧ j = nI b := by
  have h4 : i ≤ j := Int32.not_lt.mp h2
  obtain ⟨b, hb, e⟩ := sw_le1 (Int32.not_lt.mpr (Int32.le_trans (Int32.not_lt.mp h1) h4)) h3
  rw [e] at h4
  obtain ⟨a, ha, e2⟩ := nI_of2 (M := nI b) (n := b) (nI_toInt (by omega)) h1 h4
  exact ⟨a, b, by omega, hb, ha, e2, e⟩
theorem sw_qA {post : Int32 → St2 → Prop} {c : Int32} {x : Nat} (h : sw_rep c x) (hp : post (sw_rt x) (sw_sA x)) : wpX_growA post sw_u0 c := by
  rcases h with ⟨h4, e, h1, h2⟩ | ⟨e, h1⟩
  · obtain ⟨t1, t2⟩ := sw_tA x h4
    have E : sw_gA sw_u0 c = some (sw_sA x) := by
      rw [e]
      unfold sw_sA
      rw [if_pos h4]
      exact sw_some t1
    have R : sw_rt x = (sw_sA x).1 := by
      rw [t2]
      exact if_pos h4
    rw [R] at hp
    exact sw_gA_s h1 h2 (by decide) E hp
  · subst e
    exact sw_gA_n h1 hp
theorem sw_qB {post : Int32 → St2 → Prop} {d : Int32} {x y : Nat} (hx : x < 5) (h : sw_rep d y) (hp : post (sw_rt y) (sw_sB x y)) : wpX_growB post (sw_sA x) d := by
  rcases h with ⟨h4, e, h1, h2⟩ | ⟨e, h1⟩
  · obtain ⟨t0, t⟩ := sw_tB x hx
    obtain ⟨t1, t2⟩ := t y h4
    have E : sw_gB (sw_sA x) d = some (sw_sB x y) := by
      rw [e]
      unfold sw_sB
      rw [if_pos h4]
      exact sw_some t1
    have R : sw_rt y = (sw_sB x y).2.1 := by
      rw [t2]
      exact if_pos h4
    rw [R] at hp
    exact sw_gB_s h1 h2 t0 E hp
  · subst e
    exact sw_gB_n h1 hp
theorem sw_qC {post : Int32 → Prop} {i j : Int32} {x y : Nat} (hx : x < 5) (hy : y < 5) (hp : post (sw_ec x y i j)) : wpX_commonB post (sw_sB x y) i j := by
  obtain ⟨s1, s2, s3⟩ := sw_tS x hx y hy
  unfold sw_ec at hp
  by_cases h : i < 0 ∨ j < i ∨ sw_fl y < j
  · rw [if_pos h] at hp
    refine sw_cB_n ?_ hp
    rw [s2]
    exact h.imp_right (fun g => g.imp_right Int32.not_le.mpr)
  · rw [if_neg h] at hp
    have h1 : ¬ i < 0 := fun z => h (Or.inl z)
    have h2 : ¬ j < i := fun z => h (Or.inr (Or.inl z))
    have h3 : j ≤ sw_fl y := Int32.not_lt.mp (fun z => h (Or.inr (Or.inr z)))
    obtain ⟨a, b, ha, hb, hab, rfl, rfl⟩ := sw_ij h1 h2 h3
    refine sw_cB_s h1 h2 ?_ (sw_tC x hx y hy b hb a ha ⟨h3, hab⟩) hp
    rw [s2]
    exact h3
theorem sw_qE {post : Int32 → Prop} {k j : Int32} {x y : Nat} (hx : x < 5) (hy : y < 5) (hp : post (sw_ee x y k j)) : wpX_commonEnd post (sw_sB x y) k j := by
  obtain ⟨s1, s2, s3⟩ := sw_tS x hx y hy
  unfold sw_ee at hp
  by_cases h : k < 0 ∨ sw_fl x < k ∨ j < 0 ∨ sw_fl y < j
  · rw [if_pos h] at hp
    refine sw_cE_n ?_ hp
    rw [s1, s2]
    exact h.imp_right (fun g => g.imp_right (fun f => f.imp_right Int32.not_le.mpr))
  · rw [if_neg h] at hp
    have h1 : ¬ k < 0 := fun z => h (Or.inl z)
    have h2 : ¬ sw_fl x < k := fun z => h (Or.inr (Or.inl z))
    have h3 : ¬ j < 0 := fun z => h (Or.inr (Or.inr (Or.inl z)))
    have h4 : j ≤ sw_fl y := Int32.not_lt.mp (fun z => h (Or.inr (Or.inr (Or.inr z))))
    obtain ⟨a, ha, rfl⟩ := sw_le1 h1 (Int32.not_lt.mp h2)
    obtain ⟨b, hb, rfl⟩ := sw_le1 h3 h4
    refine sw_cE_s h1 ?_ h3 ?_ (sw_tE x hx y hy a ha b hb ⟨Int32.not_lt.mp h2, h4⟩) hp
    · rw [s1]
      exact h2
    · rw [s2]
      exact h4
theorem sw_qH {post : Int32 → Prop} {i j : Int32} {x y : Nat} (hx : x < 5) (hy : y < 5) (hp : post (sw_eh x y i j)) : wpX_changesA post (sw_sB x y) i j := by
  obtain ⟨s1, s2, s3⟩ := sw_tS x hx y hy
  unfold sw_eh at hp
  by_cases h : i < 0 ∨ j < i ∨ sw_fl x < j
  · rw [if_pos h] at hp
    refine sw_ch_n ?_ hp
    rw [s1]
    exact h.imp_right (fun g => g.imp_right Int32.not_le.mpr)
  · rw [if_neg h] at hp
    have h1 : ¬ i < 0 := fun z => h (Or.inl z)
    have h2 : ¬ j < i := fun z => h (Or.inr (Or.inl z))
    have h3 : j ≤ sw_fl x := Int32.not_lt.mp (fun z => h (Or.inr (Or.inr z)))
    obtain ⟨a, b, ha, hb, hab, rfl, rfl⟩ := sw_ij h1 h2 h3
    refine sw_ch_s h1 h2 ?_ (sw_tH x hx y hy b hb a ha ⟨h3, hab⟩) hp
    rw [s1]
    exact h3
theorem sw_qP {post : Int32 → St2 → Prop} {c d i : Int32} {x y : Nat} (hx : x < 5) (hy : y < 5) (hc : sw_rep c x) (hd : sw_rep d y) (hp : ∀ v, post (sw_ep x y c i) v) : wpX_putA post (sw_sB x y) i d := by
  obtain ⟨s1, s2, s3⟩ := sw_tS x hx y hy
  unfold sw_ep at hp
  rcases hd with ⟨g4, e, g1, g2⟩ | ⟨e, g⟩
  · by_cases h1 : i < 0
    · rw [if_neg (fun z => absurd (z.2.1 ▸ h1) (by decide))] at hp
      exact sw_pA_n (Or.inl h1) (hp _)
    · by_cases h4 : x < 4
      · rcases pk_ix i (n := 1) (by omega) with h2 | h2 | ⟨a, ha, h2⟩
        · exact absurd h2 h1
        · have n0 : ¬ i = 0 := by
            intro z
            rw [z] at h2
            exact absurd h2 (by decide)
          rw [if_neg (fun z => n0 z.2.1)] at hp
          refine sw_pA_n (Or.inr (Or.inl ?_)) (hp _)
          rw [s1, sw_fl1 h4]
          exact h2
        · have z0 : i = 0 := by
            rw [h2, show a = 0 by omega]
            rfl
          subst z0
          rw [if_pos ⟨h4, rfl, g4⟩] at hp
          have C : c = (sw_sB x y).2.2.1 0 := by
            rcases hc with ⟨_, f, _, _⟩ | ⟨f, _⟩
            · rw [s3 h4, f]
            · omega
          rw [C] at hp
          have T := sw_some (d := sw_u0) (sw_tP x h4 y g4)
          rw [← e] at T
          refine sw_pA_s h1 ?_ g1 g2 T hp
          rw [s1, sw_fl1 h4]
          decide
      · rw [if_neg (fun z => h4 z.1)] at hp
        refine sw_pA_n (Or.inr (Or.inl ?_)) (hp _)
        rw [s1, sw_fl0 h4]
        exact Int32.not_lt.mp h1
  · rw [if_neg (fun z => absurd z.2.2 (by omega))] at hp
    exact sw_pA_n (Or.inr (Or.inr g)) (hp _)
end
section
/-- the law's own checks, from the last to the first -/
theorem sw_t379 {mc ms kc ks : Nat} {x0 x2 x11 x12 x13 z0 z1 : Int32} (e1 : z1 = z0) (e2 : x11 = if x12 = 0 ∨ ¬ x2 = 0 ∨ x13 = 0 then -1 else x0) :
    wL_lawOf_379 (fun r _ => r = 1) mc ms x0 x2 x11 x12 x13 z0 z1 kc ks := by
  unfold wL_lawOf_379 wL_lawOf_402 wL_lawOf_403
  refine br_t e1 (br_c (fun h => br_t ?_ rfl) (fun h => br_c (fun h2 => br_c (fun h3 => br_t ?_ rfl) (fun h3 => br_t ?_ rfl)) (fun h2 => br_t ?_ rfl)))
  · rw [e2, if_pos (Or.inl h)]
  · rw [e2, if_pos (Or.inr (Or.inr h3))]
  · rw [e2, if_neg (fun z => z.elim h (fun z => z.elim (fun z => z h2) h3))]
  · rw [e2, if_pos (Or.inr (Or.inl h2))]
theorem sw_t363 {mc ms kc ks : Nat} {x0 x2 x10 x11 x12 x13 x17 x19 z0 z1 : Int32} (e1 : z1 = z0) (e3 : x10 = if x17 = 0 then -1 else x19) (e2 : x11 = if x12 = 0 ∨ ¬ x2 = 0 ∨ x13 = 0 then -1 else x0) :
    wL_lawOf_363 (fun r _ => r = 1) mc ms x0 x2 x10 x11 x12 x13 x17 x19 z0 z1 kc ks := by
  unfold wL_lawOf_363
  refine br_t e1 (br_c (fun h => sw_t379 ?_ e2) (fun h => sw_t379 ?_ e2))
  · rw [e3, if_pos h]
  · rw [e3, if_neg h]
theorem sw_t328 {mc ms kc ks : Nat} {x0 x2 x3 x4 x9 x10 x11 x12 x13 x14 x16 x17 x19 z0 z1 : Int32} (e1 : z1 = z0) (e4 : x9 = if x16 = 0 then -1 else (if x14 = 0 ∨ ¬ x4 = 1 ∨ ¬ x3 = 1 then 0 else 1)) (e3 : x10 = if x17 = 0 then -1 else x19) (e2 : x11 = if x12 = 0 ∨ ¬ x2 = 0 ∨ x13 = 0 then -1 else x0) :
    wL_lawOf_328 (fun r _ => r = 1) mc ms x0 x2 x3 x4 x9 x10 x11 x12 x13 x14 x16 x17 x19 z0 z1 kc ks := by
  unfold wL_lawOf_328 wL_lawOf_358
  refine br_t e1 (br_c (fun h => sw_t363 ?_ e3 e2) (fun h => br_c (fun h2 => sw_t363 ?_ e3 e2) (fun h2 => br_c (fun h3 => br_c (fun h4 => sw_t363 ?_ e3 e2) (fun h4 => sw_t363 ?_ e3 e2)) (fun h3 => sw_t363 ?_ e3 e2))))
  · rw [e4, if_pos h]
  · rw [e4, if_neg h, if_pos (Or.inl h2)]
  · rw [e4, if_neg h, if_neg (fun z => z.elim h2 (fun z => z.elim (fun z => z h3) (fun z => z h4)))]
  · rw [e4, if_neg h, if_pos (Or.inr (Or.inr h4))]
  · rw [e4, if_neg h, if_pos (Or.inr (Or.inl h3))]
theorem sw_t298 {mc ms kc ks : Nat} {x0 x2 x3 x4 x8 x9 x10 x11 x12 x13 x14 x15 x16 x17 x18 x19 z0 z1 : Int32} (e1 : z1 = z0) (e5 : x8 = if x15 = 0 then -1 else (if x14 = 0 ∨ ¬ x18 = 1 then 0 else 1)) (e4 : x9 = if x16 = 0 then -1 else (if x14 = 0 ∨ ¬ x4 = 1 ∨ ¬ x3 = 1 then 0 else 1)) (e3 : x10 = if x17 = 0 then -1 else x19) (e2 : x11 = if x12 = 0 ∨ ¬ x2 = 0 ∨ x13 = 0 then -1 else x0) :
    wL_lawOf_298 (fun r _ => r = 1) mc ms x0 x2 x3 x4 x8 x9 x10 x11 x12 x13 x14 x15 x16 x17 x18 x19 z0 z1 kc ks := by
  unfold wL_lawOf_298 wL_lawOf_323
  refine br_t e1 (br_c (fun h => sw_t328 ?_ e4 e3 e2) (fun h => br_c (fun h2 => sw_t328 ?_ e4 e3 e2) (fun h2 => br_c (fun h3 => sw_t328 ?_ e4 e3 e2) (fun h3 => sw_t328 ?_ e4 e3 e2))))
  · rw [e5, if_pos h]
  · rw [e5, if_neg h, if_pos (Or.inl h2)]
  · rw [e5, if_neg h, if_neg (fun z => z.elim h2 (fun z => z h3))]
  · rw [e5, if_neg h, if_pos (Or.inr h3)]
theorem sw_t269 {mc ms kc ks : Nat} {x0 x2 x3 x4 x6 x7 x8 x9 x10 x11 x12 x13 x14 x15 x16 x17 x18 z0 : Int32} (e7 : x6 = if x12 = 0 then -1 else 1) (e6 : x7 = if x13 = 0 then -1 else 1) (e5 : x8 = if x15 = 0 then -1 else (if x14 = 0 ∨ ¬ x18 = 1 then 0 else 1)) (e4 : x9 = if x16 = 0 then -1 else (if x14 = 0 ∨ ¬ x4 = 1 ∨ ¬ x3 = 1 then 0 else 1)) (e3 : x10 = if x17 = 0 then -1 else z0) (e2 : x11 = if x12 = 0 ∨ ¬ x2 = 0 ∨ x13 = 0 then -1 else x0) :
    wL_lawOf_269 (fun r _ => r = 1) mc ms x0 x2 x3 x4 x6 x7 x8 x9 x10 x11 x12 x13 x14 x15 x16 x17 x18 z0 kc ks := by
  unfold wL_lawOf_269 wL_lawOf_283
  refine br_c (fun h => br_t ?_ (br_c (fun g => sw_t298 ?_ e5 e4 e3 e2) (fun g => sw_t298 ?_ e5 e4 e3 e2))) (fun h => br_t ?_ (br_c (fun g => sw_t298 ?_ e5 e4 e3 e2) (fun g => sw_t298 ?_ e5 e4 e3 e2)))
  · rw [e7, if_pos h]
  · rw [e6, if_pos g]
  · rw [e6, if_neg g]
  · rw [e7, if_neg h]
  · rw [e6, if_pos g]
  · rw [e6, if_neg g]
theorem sw_t219 {mc ms kc ks : Nat} {x0 x2 x3 x4 x6 x7 x8 x9 x10 x11 x12 x13 x14 x15 x16 z0 : Int32} (e7 : x6 = if x12 = 0 then -1 else 1) (e6 : x7 = if x13 = 0 then -1 else 1) (e5 : x8 = if x15 = 0 then -1 else (if x14 = 0 ∨ ¬ x3 - x2 = 1 then 0 else 1)) (e4 : x9 = if x16 = 0 then -1 else (if x14 = 0 ∨ ¬ x4 = 1 ∨ ¬ x3 = 1 then 0 else 1)) (e3 : x10 = if z0 = 0 then -1 else (if x3 - x2 = 1 then (if x14 = 0 then 1 else 0) else (if x13 = 0 then 0 else 1))) (e2 : x11 = if x12 = 0 ∨ ¬ x2 = 0 ∨ x13 = 0 then -1 else x0) :
    wL_lawOf_219 (fun r _ => r = 1) mc ms x0 x2 x3 x4 x6 x7 x8 x9 x10 x11 x12 x13 x14 x15 x16 z0 kc ks := by
  unfold wL_lawOf_219 wL_lawOf_242
  intro w ew
  subst ew
  refine br_c (fun h => ?_) (fun h => ?_)
  · rw [if_pos h] at e3
    refine br_c (fun g => br_c (fun f => sw_t269 e7 e6 e5 e4 ?_ e2) (fun f => sw_t269 e7 e6 e5 e4 ?_ e2)) (fun g => br_c (fun f => sw_t269 e7 e6 e5 e4 ?_ e2) (fun f => br_c (fun f2 => absurd f2 f) (fun _ => sw_t269 e7 e6 e5 e4 ?_ e2)))
    · rw [if_pos f] at e3
      exact e3
    · rw [if_neg f] at e3
      exact e3
    · rw [if_pos f] at e3
      exact e3
    · rw [if_neg f] at e3
      exact e3
  · rw [if_neg h] at e3
    refine br_c (fun g => sw_t269 e7 e6 e5 e4 ?_ e2) (fun g => sw_t269 e7 e6 e5 e4 ?_ e2)
    · rw [if_pos g] at e3
      exact e3
    · rw [if_neg g] at e3
      exact e3
/-- the flags of the law -/
def sw_f1 (i j f : Int32) : Int32 := if i < 0 ∨ j < i ∨ f < j then 0 else 1
def sw_f2 (k j f g : Int32) : Int32 := if k < 0 ∨ f < k ∨ j < 0 ∨ g < j then 0 else 1
theorem sw_t189 {post : Int32 → St0 → Prop} {mc ms kc ks : Nat} {x0 x2 x3 x4 x6 x7 x8 x9 x10 x11 x12 x13 x14 x15 z0 : Int32} (h12 : x12 = 0 ∨ x12 = 1) (H : wL_lawOf_219 post mc ms x0 x2 x3 x4 x6 x7 x8 x9 x10 x11 x12 x13 x14 x15 z0 (sw_f1 x2 x3 x12) kc ks) :
    wL_lawOf_189 post mc ms x0 x2 x3 x4 x6 x7 x8 x9 x10 x11 x12 x13 x14 x15 z0 kc ks := by
  unfold wL_lawOf_189 wL_lawOf_211 wL_lawOf_218
  unfold sw_f1 at H
  refine br_c (fun h => ?_) (fun h => br_c (fun g => ?_) (fun g => ?_))
  · rw [if_pos (Or.inl h)] at H
    exact H
  · rw [if_pos (Or.inr (Or.inl g))] at H
    exact H
  · rcases h12 with e | e
    · subst e
      refine br_t rfl (br_c (fun f => ?_) (fun f => ?_))
      · rw [if_pos (Or.inr (Or.inr f))] at H
        exact H
      · rw [if_neg (fun z => z.elim h (fun z => z.elim g f))] at H
        exact H
    · subst e
      refine br_f (by decide) (br_c (fun f => ?_) (fun f => ?_))
      · rw [if_pos (Or.inr (Or.inr f))] at H
        exact H
      · rw [if_neg (fun z => z.elim h (fun z => z.elim g f))] at H
        exact H
theorem sw_t144 {post : Int32 → St0 → Prop} {mc ms kc ks : Nat} {x0 x2 x3 x4 x6 x7 x8 x9 x10 x11 x12 x13 x14 z0 : Int32} (h12 : x12 = 0 ∨ x12 = 1) (h13 : x13 = 0 ∨ x13 = 1) (H : wL_lawOf_189 post mc ms x0 x2 x3 x4 x6 x7 x8 x9 x10 x11 x12 x13 x14 z0 (sw_f2 x4 x3 x12 x13) kc ks) :
    wL_lawOf_144 post mc ms x0 x2 x3 x4 x6 x7 x8 x9 x10 x11 x12 x13 x14 z0 kc ks := by
  unfold wL_lawOf_144 wL_lawOf_163 wL_lawOf_181 wL_lawOf_188
  unfold sw_f2 at H
  refine br_c (fun h => ?_) (fun h => ?_)
  · rw [if_pos (Or.inl h)] at H
    exact H
  · have M : ∀ f : Int32, f = x12 → ((f < x4 → wL_lawOf_189 post mc ms x0 x2 x3 x4 x6 x7 x8 x9 x10 x11 x12 x13 x14 z0 0 kc ks) ∧ (¬ f < x4 → ((x3 < 0 → wL_lawOf_189 post mc ms x0 x2 x3 x4 x6 x7 x8 x9 x10 x11 x12 x13 x14 z0 0 kc ks) ∧ (¬ x3 < 0 →
        ((x13 = 0 → ((0 < x3 → wL_lawOf_189 post mc ms x0 x2 x3 x4 x6 x7 x8 x9 x10 x11 x12 x13 x14 z0 0 kc ks) ∧ (¬ 0 < x3 → wL_lawOf_189 post mc ms x0 x2 x3 x4 x6 x7 x8 x9 x10 x11 x12 x13 x14 z0 1 kc ks))) ∧
         (¬ x13 = 0 → ((1 < x3 → wL_lawOf_189 post mc ms x0 x2 x3 x4 x6 x7 x8 x9 x10 x11 x12 x13 x14 z0 0 kc ks) ∧ (¬ 1 < x3 → wL_lawOf_189 post mc ms x0 x2 x3 x4 x6 x7 x8 x9 x10 x11 x12 x13 x14 z0 1 kc ks)))))))) := by
      intro f ef
      subst ef
      refine br_c (fun g => ?_) (fun g => br_c (fun q => ?_) (fun q => ?_))
      · rw [if_pos (Or.inr (Or.inl g))] at H
        exact H
      · rw [if_pos (Or.inr (Or.inr (Or.inl q)))] at H
        exact H
      · rcases h13 with e | e
        · subst e
          refine br_t rfl (br_c (fun t => ?_) (fun t => ?_))
          · rw [if_pos (Or.inr (Or.inr (Or.inr t)))] at H
            exact H
          · rw [if_neg (fun z => z.elim h (fun z => z.elim g (fun z => z.elim q t)))] at H
            exact H
        · subst e
          refine br_f (by decide) (br_c (fun t => ?_) (fun t => ?_))
          · rw [if_pos (Or.inr (Or.inr (Or.inr t)))] at H
            exact H
          · rw [if_neg (fun z => z.elim h (fun z => z.elim g (fun z => z.elim q t)))] at H
            exact H
    rcases h12 with e | e
    · exact br_t e (M 0 e.symm)
    · exact br_f (fun z => absurd (e.symm.trans z) (by decide)) (M 1 e.symm)
theorem sw_t114 {post : Int32 → St0 → Prop} {mc ms kc ks : Nat} {x0 x2 x3 x4 x6 x7 x8 x9 x10 x11 x12 x13 z0 : Int32} (h13 : x13 = 0 ∨ x13 = 1) (H : wL_lawOf_144 post mc ms x0 x2 x3 x4 x6 x7 x8 x9 x10 x11 x12 x13 z0 (sw_f1 x2 x3 x13) kc ks) :
    wL_lawOf_114 post mc ms x0 x2 x3 x4 x6 x7 x8 x9 x10 x11 x12 x13 z0 kc ks := by
  unfold wL_lawOf_114 wL_lawOf_136 wL_lawOf_143
  unfold sw_f1 at H
  refine br_c (fun h => ?_) (fun h => br_c (fun g => ?_) (fun g => ?_))
  · rw [if_pos (Or.inl h)] at H
    exact H
  · rw [if_pos (Or.inr (Or.inl g))] at H
    exact H
  · rcases h13 with e | e
    · subst e
      refine br_t rfl (br_c (fun f => ?_) (fun f => ?_))
      · rw [if_pos (Or.inr (Or.inr f))] at H
        exact H
      · rw [if_neg (fun z => z.elim h (fun z => z.elim g f))] at H
        exact H
    · subst e
      refine br_f (by decide) (br_c (fun f => ?_) (fun f => ?_))
      · rw [if_pos (Or.inr (Or.inr f))] at H
        exact H
      · rw [if_neg (fun z => z.elim h (fun z => z.elim g f))] at H
        exact H
/-- same letters -/
def sw_sm (x y : Nat) : Int32 := if x = y ∧ x < 4 then 1 else 0
theorem sw_fl01 (x : Nat) : sw_fl x = 0 ∨ sw_fl x = 1 := by
  by_cases h : x < 4
  · exact Or.inr (sw_fl1 h)
  · exact Or.inl (sw_fl0 h)
theorem sw_flz {x : Nat} : sw_fl x = 0 ↔ ¬ x < 4 := by
  by_cases h : x < 4
  · rw [sw_fl1 h]
    exact ⟨fun z => absurd z (by decide), fun z => absurd h z⟩
  · exact ⟨fun _ => h, fun _ => sw_fl0 h⟩
theorem sw_smz {x y : Nat} : sw_sm x y = 0 ↔ ¬ (x = y ∧ x < 4) := by
  unfold sw_sm
  by_cases h : x = y ∧ x < 4
  · rw [if_pos h]
    exact ⟨fun z => absurd z (by decide), fun z => absurd h z⟩
  · rw [if_neg h]
    exact ⟨fun _ => h, fun _ => rfl⟩
theorem sw_f1z {i j f : Int32} : sw_f1 i j f = 0 ↔ (i < 0 ∨ j < i ∨ f < j) := by
  unfold sw_f1
  by_cases h : i < 0 ∨ j < i ∨ f < j
  · rw [if_pos h]
    exact ⟨fun _ => h, fun _ => rfl⟩
  · rw [if_neg h]
    exact ⟨fun z => absurd z (by decide), fun z => absurd z h⟩
theorem sw_f2z {k j f g : Int32} : sw_f2 k j f g = 0 ↔ (k < 0 ∨ f < k ∨ j < 0 ∨ g < j) := by
  unfold sw_f2
  by_cases h : k < 0 ∨ f < k ∨ j < 0 ∨ g < j
  · rw [if_pos h]
    exact ⟨fun _ => h, fun _ => rfl⟩
  · rw [if_neg h]
    exact ⟨fun z => absurd z (by decide), fun z => absurd z h⟩
theorem sw_eq {c d : Int32} {x y : Nat} (hc : sw_rep c x) (hd : sw_rep d y) (h4 : x < 4) (g4 : y < 4) : c = d ↔ x = y := by
  rcases hc with ⟨_, e, _, _⟩ | ⟨e, _⟩
  · rcases hd with ⟨_, f, _, _⟩ | ⟨f, _⟩
    · rw [e, f]
      exact nI_eq (by omega) (by omega)
    · omega
  · omega
theorem sw_t92 {post : Int32 → St0 → Prop} {mc ms kc ks : Nat} {x0 x1 x2 x3 x4 x6 x7 x8 x9 x10 x11 : Int32} {x y : Nat} (hc : sw_rep x0 x) (hd : sw_rep x1 y) (H : wL_lawOf_114 post mc ms x0 x2 x3 x4 x6 x7 x8 x9 x10 x11 (sw_fl x) (sw_fl y) (sw_sm x y) kc ks) :
    wL_lawOf_92 post mc ms x0 x1 x2 x3 x4 x6 x7 x8 x9 x10 x11 (sw_fl x) (sw_fl y) kc ks := by
  unfold wL_lawOf_92 wL_lawOf_113
  unfold sw_sm at H
  refine br_c (fun h => ?_) (fun h => br_c (fun g => ?_) (fun g => ?_))
  · rw [if_neg (fun z => (sw_flz.mp h) z.2)] at H
    exact H
  · rw [if_neg (show ¬ (x = y ∧ x < 4) from fun z => (sw_flz.mp g) (z.1 ▸ z.2))] at H
    exact H
  · have h4 : x < 4 := Classical.byContradiction (fun z => h (sw_flz.mpr z))
    have g4 : y < 4 := Classical.byContradiction (fun z => g (sw_flz.mpr z))
    refine br_c (fun f => ?_) (fun f => ?_)
    · rw [if_pos ⟨(sw_eq hc hd h4 g4).mp f, h4⟩] at H
      exact H
    · rw [if_neg (fun z => f ((sw_eq hc hd h4 g4).mpr z.1))] at H
      exact H
theorem sw_flag {A : Int32 → Prop} {d : Int32} {y : Nat} (hd : sw_rep d y) (H : A (sw_fl y)) : (d < 0 → A 0) ∧ (¬ d < 0 → ((3 < d → A 0) ∧ (¬ 3 < d → A 1))) := by
  rcases hd with ⟨h4, e, h1, h2⟩ | ⟨e, h⟩
  · rw [sw_fl1 h4] at H
    exact br_f h1 (br_f (Int32.not_lt.mpr h2) H)
  · rw [sw_fl0 (by omega)] at H
    exact br_c (fun _ => H) (fun h1 => br_t (Int32.not_le.mp (h.resolve_left h1)) H)
theorem sw_tail {mc ms kc ks : Nat} {c d i j k : Int32} {x y : Nat} (hc : sw_rep c x) (hd : sw_rep d y) :
    ((c < 0 → wL_lawOf_75 (fun r _ => r = 1) mc ms c d i j k (sw_rt x) (sw_rt y) (sw_ec x y i j) (sw_ee x y k j) (sw_eh x y i j) (sw_ep x y c i) kc ks) ∧ (¬ c < 0 → ((3 < c → wL_lawOf_75 (fun r _ => r = 1) mc ms c d i j k (sw_rt x) (sw_rt y) (sw_ec x y i j) (sw_ee x y k j) (sw_eh x y i j) (sw_ep x y c i) kc ks) ∧ (¬ 3 < c → wL_lawOf_76 (fun r _ => r = 1) mc ms c d i j k (sw_rt x) (sw_rt y) (sw_ec x y i j) (sw_ee x y k j) (sw_eh x y i j) (sw_ep x y c i) 1 kc ks)))) := by
  refine sw_flag (A := fun z => wL_lawOf_76 (fun r _ => r = 1) mc ms c d i j k (sw_rt x) (sw_rt y) (sw_ec x y i j) (sw_ee x y k j) (sw_eh x y i j) (sw_ep x y c i) z kc ks) hc ?_
  refine sw_flag (A := fun z => wL_lawOf_92 (fun r _ => r = 1) mc ms c d i j k (sw_rt x) (sw_rt y) (sw_ec x y i j) (sw_ee x y k j) (sw_eh x y i j) (sw_ep x y c i) (sw_fl x) z kc ks) hd ?_
  refine sw_t92 hc hd (sw_t114 (sw_fl01 y) (sw_t144 (sw_fl01 x) (sw_fl01 y) (sw_t189 (sw_fl01 x) (sw_t219 ?_ ?_ ?_ ?_ ?_ ?_))))
  · by_cases h : x < 4
    · rw [if_neg (fun z => sw_flz.mp z h)]
      exact if_pos h
    · rw [if_pos (sw_flz.mpr h)]
      exact if_neg h
  · by_cases h : y < 4
    · rw [if_neg (fun z => sw_flz.mp z h)]
      exact if_pos h
    · rw [if_pos (sw_flz.mpr h)]
      exact if_neg h
  · unfold sw_ec
    by_cases h : i < 0 ∨ j < i ∨ sw_fl y < j
    · rw [if_pos h, if_pos (sw_f1z.mpr h)]
    · rw [if_neg h, if_neg (fun z => h (sw_f1z.mp z))]
      by_cases g : x = y ∧ x < 4 ∧ j - i = 1
      · rw [if_pos g, if_neg (fun z => z.elim (fun z => sw_smz.mp z ⟨g.1, g.2.1⟩) (fun z => z g.2.2))]
      · rw [if_neg g, if_pos ?_]
        by_cases f : j - i = 1
        · exact Or.inl (sw_smz.mpr (fun z => g ⟨z.1, z.2, f⟩))
        · exact Or.inr f
  · unfold sw_ee
    by_cases h : k < 0 ∨ sw_fl x < k ∨ j < 0 ∨ sw_fl y < j
    · rw [if_pos h, if_pos (sw_f2z.mpr h)]
    · rw [if_neg h, if_neg (fun z => h (sw_f2z.mp z))]
      by_cases g : x = y ∧ x < 4 ∧ k = 1 ∧ j = 1
      · rw [if_pos g, if_neg (fun z => z.elim (fun z => sw_smz.mp z ⟨g.1, g.2.1⟩) (fun z => z.elim (fun z => z g.2.2.1) (fun z => z g.2.2.2)))]
      · rw [if_neg g, if_pos ?_]
        by_cases f : k = 1
        · by_cases f2 : j = 1
          · exact Or.inl (sw_smz.mpr (fun z => g ⟨z.1, z.2, f, f2⟩))
          · exact Or.inr (Or.inr f2)
        · exact Or.inr (Or.inl f)
  · unfold sw_eh
    by_cases h : i < 0 ∨ j < i ∨ sw_fl x < j
    · rw [if_pos h, if_pos (sw_f1z.mpr h)]
    · rw [if_neg h, if_neg (fun z => h (sw_f1z.mp z))]
      by_cases g : j - i = 1
      · rw [if_pos g, if_pos g]
        by_cases f : x = y ∧ x < 4
        · rw [if_pos f, if_neg (fun z => sw_smz.mp z f)]
        · rw [if_neg f, if_pos (sw_smz.mpr f)]
      · rw [if_neg g, if_neg g]
        by_cases f : y < 4
        · rw [sw_fl1 f, if_neg (by decide)]
        · rw [sw_fl0 f, if_pos rfl]
  · unfold sw_ep
    by_cases g : x < 4 ∧ i = 0 ∧ y < 4
    · rw [if_pos g, if_neg (fun z => z.elim (fun z => sw_flz.mp z g.1) (fun z => z.elim (fun z => z g.2.1) (fun z => sw_flz.mp z g.2.2)))]
    · rw [if_neg g, if_pos ?_]
      by_cases f : x < 4
      · by_cases f2 : i = 0
        · exact Or.inr (Or.inr (sw_flz.mpr (fun z => g ⟨f, f2, z⟩)))
        · exact Or.inr (Or.inl f2)
      · exact Or.inl (sw_flz.mpr f)
end
section
/-- the law over any five ints -/
theorem sw_law (c d i j k : Int32) : wpL_lawOf (fun r _ => r = 1) 7 182 () c d i j k := by
  obtain ⟨x, hx, hc⟩ := sw_repE c
  obtain ⟨y, hy, hd⟩ := sw_repE d
  unfold wpL_lawOf
  refine ⟨by omega, by omega, 6, 174, by omega, by omega, ?_⟩
  unfold wpX_init
  dsimp only
  refine ⟨by omega, by omega, by omega, by omega, by omega, by omega, by omega, by omega, by omega, by omega, by omega, by omega, ?_⟩
  refine sw_qA hc ?_
  have QB := fun (post : Int32 → St2 → Prop) => @sw_qB post d x y hx hd
  have QC := fun (post : Int32 → Prop) => @sw_qC post i j x y hx hy
  have QE := fun (post : Int32 → Prop) => @sw_qE post k j x y hx hy
  have QH := fun (post : Int32 → Prop) => @sw_qH post i j x y hx hy
  have QP := fun (post : Int32 → St2 → Prop) => @sw_qP post c d i x y hx hy hc hd
  generalize sw_sA x = sA at QB ⊢
  generalize sw_sB x y = sB at QB QC QE QH QP ⊢
  obtain ⟨f0_m, f0_n, a1, a2, a3, a4, a5, a6⟩ := sA
  obtain ⟨g0_m, g0_n, b1, b2, b3, b4, b5, b6⟩ := sB
  dsimp only
  refine QB _ ?_
  dsimp only
  refine QC _ ?_
  refine QE _ ?_
  refine QH _ ?_
  refine QP _ (fun v => ?_)
  obtain ⟨e0_m, e0_n, e1, e2, e3, e4, e5, e6⟩ := v
  exact sw_tail hc hd
theorem sw_cellAt {post : Int32 → Prop} {L : Nat} {xs : Nat → Int32} {u : St0} {q : Int32} (p : Nat) (hL : L ≤ 5) (hp : p < 5) (hq : q = nI p) (h : ∀ v, post v) : wpL_cellAt post L xs u q := by
  subst hq
  unfold wpL_cellAt
  refine br_c (fun _ => h 0) (fun z => ⟨vp_in_nI ?_ (by omega), h _⟩)
  rcases Nat.lt_or_ge p L with g | g
  · exact g
  · exact absurd (nI_le g (by omega)) z
theorem i_vc (xs : Nat → Int32) (L : Nat) (hL : L ≤ 5) : wpL_law (fun r => r = 1) L xs := by
  unfold wpL_law
  refine sw_cellAt 0 hL (by omega) rfl (fun c => ?_)
  refine sw_cellAt 1 hL (by omega) rfl (fun d => ?_)
  refine sw_cellAt 2 hL (by omega) rfl (fun i => ?_)
  refine sw_cellAt 3 hL (by omega) rfl (fun j => ?_)
  refine sw_cellAt 4 hL (by omega) rfl (fun k => ?_)
  exact ⟨7, 182, by omega, by omega, sw_law c d i j k⟩
end
