section
/-- an array's picture: the places that were written, each with what it holds; all other places hold 0 -/
abbrev tr_L : Type := List (Nat × Int32)
/-- what the picture holds at a place -/
def tr_g : List (Nat × Int32) → Nat → Int32
  | [], _ => 0
  | (j, v) :: t, k => bif Nat.beq k j then v else tr_g t k
/-- the picture after a store -/
def tr_s : List (Nat × Int32) → Nat → Int32 → List (Nat × Int32)
  | [], k, x => [(k, x)]
  | (j, v) :: t, k, x => bif Nat.beq k j then (j, x) :: t else (j, v) :: tr_s t k x
/-- the letters: the picture holds their numbers, e says which int each number stands for -/
def tr_h (e : Int32 → Int32) (l : List (Nat × Int32)) : Nat → Int32 := fun k => e (tr_g l k)
theorem tr_gS (l : List (Nat × Int32)) (k : Nat) (x : Int32) (j : Nat) : tr_g (tr_s l k x) j = if j = k then x else tr_g l j := by
  induction l with
  | nil =>
    show (bif Nat.beq j k then x else 0) = if j = k then x else 0
    by_cases h : j = k
    · rw [if_pos h, h, Nat.beq_refl]
      rfl
    · rw [if_neg h]
      cases hb : Nat.beq j k with
      | true => exact absurd (Nat.eq_of_beq_eq_true hb) h
      | false => rfl
  | cons a t ih =>
    obtain ⟨i, v⟩ := a
    show tr_g (bif Nat.beq k i then (i, x) :: t else (i, v) :: tr_s t k x) j = if j = k then x else (bif Nat.beq j i then v else tr_g t j)
    cases hk : Nat.beq k i with
    | true =>
      have ek : k = i := Nat.eq_of_beq_eq_true hk
      show (bif Nat.beq j i then x else tr_g t j) = _
      by_cases h : j = k
      · rw [if_pos h, h, hk]
        rfl
      · rw [if_neg h]
        cases hb : Nat.beq j i with
        | true => exact absurd ((Nat.eq_of_beq_eq_true hb).trans ek.symm) h
        | false => rfl
    | false =>
      show (bif Nat.beq j i then v else tr_g (tr_s t k x) j) = _
      by_cases h : j = k
      · rw [if_pos h, h, hk]
        show tr_g (tr_s t k x) k = x
        rw [h, if_pos rfl] at ih
        exact ih
      · rw [if_neg h, ih, if_neg h]
theorem tr_gs (l : List (Nat × Int32)) (k : Nat) (x : Int32) : upd (tr_g l) k x = tr_g (tr_s l k x) := by
  funext j
  rw [tr_gS]
  rfl
theorem tr_hs (e : Int32 → Int32) (l : List (Nat × Int32)) (k : Nat) (x : Int32) : upd (tr_h e l) k (e x) = tr_h e (tr_s l k x) := by
  funext j
  show (if j = k then e x else e (tr_g l j)) = e (tr_g (tr_s l k x) j)
  rw [tr_gS]
  by_cases h : j = k
  · rw [if_pos h, if_pos h]
  · rw [if_neg h, if_neg h]
theorem tr_g0 : tr_g [] = fun _ => 0 := rfl
theorem tr_h0 {e : Int32 → Int32} (h : e 0 = 0) : tr_h e [] = fun _ => 0 := by
  funext j
  exact h
/-- an answer is there, and what is asked of it holds -/
def tr_w {α : Type} (o : Option α) (post : α → Prop) : Prop := ∃ r, o = some r ∧ post r
theorem tr_ws {α : Type} {r : α} {post : α → Prop} (h : tr_w (some r) post) : post r := by
  obtain ⟨x, hx, hp⟩ := h
  cases hx
  exact hp
theorem tr_wn {α : Type} {post : α → Prop} (h : tr_w none post) : False := by
  obtain ⟨x, hx, _⟩ := h
  cases hx
theorem tr_wi {α : Type} {c : Prop} [Decidable c] {x y : Option α} {post : α → Prop} {A B : Prop} (h : tr_w (if c then x else y) post) (f : tr_w x post → A) (g : tr_w y post → B) : (c → A) ∧ (¬ c → B) := by
  refine ⟨fun z => f ?_, fun z => g ?_⟩
  · rw [if_pos z] at h
    exact h
  · rw [if_neg z] at h
    exact h
theorem tr_wg {α : Type} {c : Prop} [Decidable c] {x : Option α} {post : α → Prop} (h : tr_w (if c then x else none) post) : c ∧ tr_w x post := by
  by_cases z : c
  · rw [if_pos z] at h
    exact ⟨z, h⟩
  · rw [if_neg z] at h
    exact (tr_wn h).elim
theorem tr_wk {α : Type} {c : Prop} [Decidable c] {x : Option α} {post : α → Prop} (h : tr_w (if c then none else x) post) : ¬ c ∧ tr_w x post := by
  by_cases z : c
  · rw [if_pos z] at h
    exact (tr_wn h).elim
  · rw [if_neg z] at h
    exact ⟨z, h⟩
theorem tr_wb {α β : Type} {o : Option α} {f : α → Option β} {post : β → Prop} (h : tr_w (o.bind f) post) : tr_w o (fun r => tr_w (f r) post) := by
  cases o with
  | none => exact (tr_wn h).elim
  | some r => exact ⟨r, rfl, h⟩
theorem tr_wm {α : Type} {o : Option α} {p q : α → Prop} (h : tr_w o p) (f : ∀ r, p r → q r) : tr_w o q := by
  obtain ⟨r, hr, hp⟩ := h
  exact ⟨r, hr, f r hp⟩
/-- a place of an array of n -/
def tr_in (i : Int32) (n : Nat) : Bool := !(decide (i < 0)) && decide (i.toNatClampNeg < n)
theorem tr_iv {i : Int32} {n : Nat} (h : tr_in i n = true) : vp_in i n := by
  unfold tr_in at h
  simp only [Bool.and_eq_true, Bool.not_eq_true', decide_eq_false_iff_not, decide_eq_true_eq] at h
  intro z
  rcases z with z | z
  · exact h.1 z
  · exact absurd h.2 (Nat.not_lt.mpr z)
/-- a replica's number -/
def tr_rp (p : Int32) : Bool := decide (p = 0) || (decide (p = 1) || decide (p = 2))
theorem tr_rc {p : Int32} (h : tr_rp p = true) : p = 0 ∨ p = 1 ∨ p = 2 := by
  unfold tr_rp at h
  simp only [Bool.or_eq_true, decide_eq_true_eq] at h
  exact h
theorem tr_rep {post : Int32 → Prop} {u : St0} {p : Int32} (h : tr_rp p = true) (H : post 1) : wpX_isReplica post u p := by
  rcases tr_rc h with rfl | rfl | rfl
  · exact br_f (by decide) (br_f (by decide) H)
  · exact br_f (by decide) (br_f (by decide) H)
  · exact br_f (by decide) (br_f (by decide) H)
theorem tr_r3 {p : Int32} (h : tr_rp p = true) : vp_in p 3 := by
  rcases tr_rc h with rfl | rfl | rfl
  · exact tr_iv (by decide)
  · exact tr_iv (by decide)
  · exact tr_iv (by decide)
/-- the picture of a whole state: made, and the fifteen arrays -/
abbrev tr_P : Type := Int32 × tr_L × tr_L × tr_L × tr_L × tr_L × tr_L × tr_L × tr_L × tr_L × tr_L × tr_L × tr_L × tr_L × tr_L × tr_L
/-- the state that a picture stands for -/
abbrev tr_cv (e : Int32 → Int32) (P : tr_P) : St2 := match P with
  | (m, l1, l2, l3, l4, l5, l6, l7, l8, l9, l10, l11, l12, l13, l14, l15) => (m, tr_g l1, tr_g l2, tr_g l3, tr_h e l4, tr_g l5, tr_g l6, tr_g l7, tr_g l8, tr_g l9, tr_g l10, tr_g l11, tr_g l12, tr_g l13, tr_g l14, tr_g l15)
end
section
section
variable {e : Int32 → Int32} {m : Int32} {l1 l2 l3 l4 l5 l6 l7 l8 l9 l10 l11 l12 l13 l14 l15 : tr_L}
/-- insertAt's loop -/
def tr_iaL (f t : tr_L) (b : Int32) : Nat → Int32 → Int32 → Int32 → Option Int32
  | 0, _, _, _ => none
  | n + 1, x4, x5, x6 => if 48 ≤ x6 then some (-1) else if x5 < 0 then some (-1) else
      if tr_in ((b + 1) + x5) 147 then
        if tr_g t ((b + 1) + x5).toNatClampNeg = 0 then
          if x4 = 0 then some x5 else tr_iaL f t b n (x4 + (-1)) (tr_g f ((b + 1) + x5).toNatClampNeg) (x6 + 1)
        else tr_iaL f t b n x4 (tr_g f ((b + 1) + x5).toNatClampNeg) (x6 + 1)
      else none
theorem tr_iaL_ok {post : Int32 → Prop} {b : Int32} : ∀ (n : Nat) (x4 x5 x6 : Int32), tr_w (tr_iaL l12 l13 b n x4 x5 x6) post → wX_insertAt_19 post b m (tr_g l1) (tr_g l2) (tr_g l3) (tr_h e l4) (tr_g l5) (tr_g l6) (tr_g l7) (tr_g l8) (tr_g l9) (tr_g l10) (tr_g l11) (tr_g l12) (tr_g l13) (tr_g l14) (tr_g l15) n x4 x5 x6 := by
  intro n
  induction n with
  | zero =>
    intro x4 x5 x6 h
    exact (tr_wn h).elim
  | succ n ih =>
    intro x4 x5 x6 h
    refine tr_wi h (fun h => (tr_ws h :)) (fun h => tr_wi h (fun h => (tr_ws h :)) (fun h => ?_))
    have ⟨i1, h⟩ := tr_wg h
    refine ⟨tr_iv i1, tr_wi h (fun h => tr_wi h (fun h => (tr_ws h :)) (fun h => nm_e ?_)) (fun h => ?_)⟩
    · exact ⟨tr_iv i1, nm_e (nm_e (ih _ _ _ h))⟩
    · exact ⟨tr_iv i1, nm_e (nm_e (ih _ _ _ h))⟩
def tr_ia (f t : tr_L) (p0 p1 : Int32) : Option Int32 := if tr_in (49 * p0) 147 then tr_iaL f t (49 * p0) 50 p1 (tr_g f (49 * p0).toNatClampNeg) 0 else none
theorem tr_ia_ok {post : Int32 → Prop} {p0 p1 : Int32} (h : tr_w (tr_ia l12 l13 p0 p1) post) : wpX_insertAt post (m, tr_g l1, tr_g l2, tr_g l3, tr_h e l4, tr_g l5, tr_g l6, tr_g l7, tr_g l8, tr_g l9, tr_g l10, tr_g l11, tr_g l12, tr_g l13, tr_g l14, tr_g l15) p0 p1 := by
  have ⟨i1, h⟩ := tr_wg h
  exact nm_e ⟨tr_iv i1, nm_e ⟨50, tr_iaL_ok 50 _ _ _ h⟩⟩
/-- newChange -/
def tr_nc (P : tr_P) (p0 p1 : Int32) : Option (Int32 × tr_P) := match P with
  | (m, l1, l2, l3, l4, l5, l6, l7, l8, l9, l10, l11, l12, l13, l14, l15) => if tr_in m 48 then if tr_in p0 3 then if tr_in ((49 * p0) + (tr_g (tr_s l8 p0.toNatClampNeg (tr_g l8 p0.toNatClampNeg + 1)) p0.toNatClampNeg)) 147 then
      some (m, (m + 1, tr_s l1 m.toNatClampNeg (p1 &&& 1), tr_s l2 m.toNatClampNeg p0, tr_s l3 m.toNatClampNeg (tr_g (tr_s l8 p0.toNatClampNeg (tr_g l8 p0.toNatClampNeg + 1)) p0.toNatClampNeg), l4, l5, l6, l7, tr_s l8 p0.toNatClampNeg (tr_g l8 p0.toNatClampNeg + 1), tr_s l9 ((49 * p0) + (tr_g (tr_s l8 p0.toNatClampNeg (tr_g l8 p0.toNatClampNeg + 1)) p0.toNatClampNeg)).toNatClampNeg m, l10, l11, l12, l13, l14, l15)) else none else none else none
theorem tr_nc_ok {post : Int32 → St2 → Prop} {p0 p1 : Int32} (h : tr_w (tr_nc (m, l1, l2, l3, l4, l5, l6, l7, l8, l9, l10, l11, l12, l13, l14, l15) p0 p1) (fun z => post z.1 (tr_cv e z.2))) : wpX_newChange post (m, tr_g l1, tr_g l2, tr_g l3, tr_h e l4, tr_g l5, tr_g l6, tr_g l7, tr_g l8, tr_g l9, tr_g l10, tr_g l11, tr_g l12, tr_g l13, tr_g l14, tr_g l15) p0 p1 := by
  have ⟨i1, h⟩ := tr_wg h
  have ⟨i2, h⟩ := tr_wg h
  have ⟨i3, h⟩ := tr_wg h
  exact nm_e ⟨tr_iv i1, nm_r (tr_gs _ _ _) ⟨tr_iv i1, nm_r (tr_gs _ _ _) ⟨tr_iv i2, tr_iv i2, nm_r (tr_gs _ _ _) ⟨tr_iv i2, tr_iv i1, nm_r (tr_gs _ _ _) ⟨tr_iv i2, tr_iv i3, nm_r (tr_gs _ _ _) (tr_ws h :)⟩⟩⟩⟩⟩
/-- takeAway -/
def tr_ta (P : tr_P) (p0 p1 : Int32) : Option tr_P := match P with
  | (m, l1, l2, l3, l4, l5, l6, l7, l8, l9, l10, l11, l12, l13, l14, l15) => if tr_in (((49 * p0) + 1) + p1) 147 then if tr_g l13 (((49 * p0) + 1) + p1).toNatClampNeg = 0 then (if tr_in p0 3 then
      some (m, l1, l2, l3, l4, l5, l6, l7, l8, l9, l10, l11, l12, tr_s l13 (((49 * p0) + 1) + p1).toNatClampNeg 1, l14, tr_s l15 p0.toNatClampNeg (tr_g l15 p0.toNatClampNeg - 1)) else none) else some (m, l1, l2, l3, l4, l5, l6, l7, l8, l9, l10, l11, l12, l13, l14, l15) else none
theorem tr_ta_ok {post : St2 → Prop} {p0 p1 : Int32} (h : tr_w (tr_ta (m, l1, l2, l3, l4, l5, l6, l7, l8, l9, l10, l11, l12, l13, l14, l15) p0 p1) (fun Q => post (tr_cv e Q))) : wpX_takeAway post (m, tr_g l1, tr_g l2, tr_g l3, tr_h e l4, tr_g l5, tr_g l6, tr_g l7, tr_g l8, tr_g l9, tr_g l10, tr_g l11, tr_g l12, tr_g l13, tr_g l14, tr_g l15) p0 p1 := by
  have ⟨i1, h⟩ := tr_wg h
  refine nm_e ⟨tr_iv i1, tr_wi h (fun h => ?_) (fun h => (tr_ws h :))⟩
  have ⟨i2, h⟩ := tr_wg h
  exact ⟨tr_iv i1, nm_r (tr_gs _ _ _) ⟨tr_iv i2, tr_iv i2, nm_r (tr_gs _ _ _) (tr_ws h :)⟩⟩
/-- isGreater -/
def tr_gt (l2 l6 : tr_L) (p0 p1 : Int32) : Option Int32 := if tr_in p0 48 then if tr_in p1 48 then
    if tr_g l6 p0.toNatClampNeg = tr_g l6 p1.toNatClampNeg then (if tr_g l2 p0.toNatClampNeg ≤ tr_g l2 p1.toNatClampNeg then some 0 else some 1)
    else (if tr_g l6 p0.toNatClampNeg ≤ tr_g l6 p1.toNatClampNeg then some 0 else some 1) else none else none
theorem tr_gt_ok {post : Int32 → Prop} {p0 p1 : Int32} (h : tr_w (tr_gt l2 l6 p0 p1) post) : wpX_isGreater post (m, tr_g l1, tr_g l2, tr_g l3, tr_h e l4, tr_g l5, tr_g l6, tr_g l7, tr_g l8, tr_g l9, tr_g l10, tr_g l11, tr_g l12, tr_g l13, tr_g l14, tr_g l15) p0 p1 := by
  have ⟨i1, h⟩ := tr_wg h
  have ⟨i2, h⟩ := tr_wg h
  exact ⟨tr_iv i1, tr_iv i2, tr_wi h (fun h => ⟨tr_iv i1, tr_iv i2, tr_wi h (fun h => (tr_ws h :)) (fun h => (tr_ws h :))⟩) (fun h => ⟨tr_iv i1, tr_iv i2, tr_wi h (fun h => (tr_ws h :)) (fun h => (tr_ws h :))⟩)⟩
/-- putInRow's loop: where the insert goes -/
def tr_prL (l2 l6 l12 : tr_L) (x2 x3 : Int32) : Nat → Int32 → Int32 → Option Int32
  | 0, _, _ => none
  | n + 1, x4, x5 => if 48 ≤ x5 then some x4 else if tr_in x4 147 then if tr_g l12 x4.toNatClampNeg < 0 then some x4 else
      (tr_gt l2 l6 (tr_g l12 x4.toNatClampNeg) x2).bind (fun r => if r = 0 then some x4 else tr_prL l2 l6 l12 x2 x3 n ((x3 + 1) + tr_g l12 x4.toNatClampNeg) (x5 + 1)) else none
theorem tr_prL_ok {post : St2 → Prop} {x1 x2 x3 : Int32} : ∀ (n : Nat) (x4 x5 : Int32), tr_w (tr_prL l2 l6 l12 x2 x3 n x4 x5) (fun y => wX_putInRow_71 post x1 x2 x3 y m (tr_g l1) (tr_g l2) (tr_g l3) (tr_h e l4) (tr_g l5) (tr_g l6) (tr_g l7) (tr_g l8) (tr_g l9) (tr_g l10) (tr_g l11) (tr_g l12) (tr_g l13) (tr_g l14) (tr_g l15)) → wX_putInRow_20 post x1 x2 x3 m (tr_g l1) (tr_g l2) (tr_g l3) (tr_h e l4) (tr_g l5) (tr_g l6) (tr_g l7) (tr_g l8) (tr_g l9) (tr_g l10) (tr_g l11) (tr_g l12) (tr_g l13) (tr_g l14) (tr_g l15) n x4 x5 := by
  intro n
  induction n with
  | zero =>
    intro x4 x5 h
    exact (tr_wn h).elim
  | succ n ih =>
    intro x4 x5 h
    refine tr_wi h (fun h => (tr_ws h :)) (fun h => ?_)
    have ⟨i1, h⟩ := tr_wg h
    refine ⟨tr_iv i1, tr_wi h (fun h => (tr_ws h :)) (fun h => ⟨tr_iv i1, tr_gt_ok (tr_wm (tr_wb h) (fun r h => tr_wi h (fun h => (tr_ws h :)) (fun h => ?_)))⟩)⟩
    exact ⟨tr_iv i1, nm_e (nm_e (ih _ _ h))⟩
/-- putInRow's end: the insert is linked in -/
def tr_p71 (P : tr_P) (x1 x2 x3 x4 : Int32) : Option tr_P := match P with
  | (m, l1, l2, l3, l4, l5, l6, l7, l8, l9, l10, l11, l12, l13, l14, l15) => if tr_in x4 147 then if tr_in ((x3 + 1) + x2) 147 then if tr_in x1 3 then if tr_in x2 48 then
      if tr_g l6 x2.toNatClampNeg ≤ tr_g l11 x1.toNatClampNeg then some (m, l1, l2, l3, l4, l5, l6, l7, l8, l9, l10, l11, tr_s (tr_s l12 ((x3 + 1) + x2).toNatClampNeg (tr_g l12 x4.toNatClampNeg)) x4.toNatClampNeg x2, tr_s l13 ((x3 + 1) + x2).toNatClampNeg 0, tr_s l14 x1.toNatClampNeg (tr_g l14 x1.toNatClampNeg + 1), tr_s l15 x1.toNatClampNeg (tr_g l15 x1.toNatClampNeg + 1))
      else some (m, l1, l2, l3, l4, l5, l6, l7, l8, l9, l10, tr_s l11 x1.toNatClampNeg (tr_g l6 x2.toNatClampNeg), tr_s (tr_s l12 ((x3 + 1) + x2).toNatClampNeg (tr_g l12 x4.toNatClampNeg)) x4.toNatClampNeg x2, tr_s l13 ((x3 + 1) + x2).toNatClampNeg 0, tr_s l14 x1.toNatClampNeg (tr_g l14 x1.toNatClampNeg + 1), tr_s l15 x1.toNatClampNeg (tr_g l15 x1.toNatClampNeg + 1)) else none else none else none else none
theorem tr_p71_ok {post : St2 → Prop} {x1 x2 x3 x4 : Int32} (h : tr_w (tr_p71 (m, l1, l2, l3, l4, l5, l6, l7, l8, l9, l10, l11, l12, l13, l14, l15) x1 x2 x3 x4) (fun Q => post (tr_cv e Q))) : wX_putInRow_71 post x1 x2 x3 x4 m (tr_g l1) (tr_g l2) (tr_g l3) (tr_h e l4) (tr_g l5) (tr_g l6) (tr_g l7) (tr_g l8) (tr_g l9) (tr_g l10) (tr_g l11) (tr_g l12) (tr_g l13) (tr_g l14) (tr_g l15) := by
  have ⟨i4, h⟩ := tr_wg h
  have ⟨i2, h⟩ := tr_wg h
  have ⟨i1, h⟩ := tr_wg h
  have ⟨i3, h⟩ := tr_wg h
  exact ⟨tr_iv i4, tr_iv i2, nm_r (tr_gs _ _ _) ⟨tr_iv i4, nm_r (tr_gs _ _ _) ⟨tr_iv i2, nm_r (tr_gs _ _ _) ⟨tr_iv i1, tr_iv i1, nm_r (tr_gs _ _ _) ⟨tr_iv i1, tr_iv i1, nm_r (tr_gs _ _ _) ⟨tr_iv i3, tr_iv i1, tr_wi h (fun h => (tr_ws h :)) (fun h => ⟨tr_iv i3, tr_iv i1, nm_r (tr_gs _ _ _) (tr_ws h :)⟩)⟩⟩⟩⟩⟩⟩
/-- putInRow -/
def tr_pr (P : tr_P) (p0 p1 : Int32) : Option tr_P := match P with
  | (m, l1, l2, l3, l4, l5, l6, l7, l8, l9, l10, l11, l12, l13, l14, l15) => if tr_in p1 48 then (tr_prL l2 l6 l12 p1 (49 * p0) 50 ((49 * p0 + 1) + tr_g l5 p1.toNatClampNeg) 0).bind (fun y => tr_p71 (m, l1, l2, l3, l4, l5, l6, l7, l8, l9, l10, l11, l12, l13, l14, l15) p0 p1 (49 * p0) y) else none
theorem tr_pr_ok {post : St2 → Prop} {p0 p1 : Int32} (h : tr_w (tr_pr (m, l1, l2, l3, l4, l5, l6, l7, l8, l9, l10, l11, l12, l13, l14, l15) p0 p1) (fun Q => post (tr_cv e Q))) : wpX_putInRow post (m, tr_g l1, tr_g l2, tr_g l3, tr_h e l4, tr_g l5, tr_g l6, tr_g l7, tr_g l8, tr_g l9, tr_g l10, tr_g l11, tr_g l12, tr_g l13, tr_g l14, tr_g l15) p0 p1 := by
  have ⟨i1, h⟩ := tr_wg h
  exact nm_e ⟨tr_iv i1, nm_e ⟨50, tr_prL_ok 50 _ _ (tr_wm (tr_wb h) (fun y h => tr_p71_ok h))⟩⟩
/-- learn -/
def tr_le (P : tr_P) (p0 p1 : Int32) : Option tr_P := match P with
  | (m, l1, l2, l3, l4, l5, l6, l7, l8, l9, l10, l11, l12, l13, l14, l15) => if tr_in p1 48 then if tr_in ((3 * p0) + tr_g l2 p1.toNatClampNeg) 9 then if tr_g l1 p1.toNatClampNeg = 0 then
      tr_ta (m, l1, l2, l3, l4, l5, l6, l7, l8, l9, tr_s l10 ((3 * p0) + tr_g l2 p1.toNatClampNeg).toNatClampNeg (tr_g l3 p1.toNatClampNeg), l11, l12, l13, l14, l15) p0 (tr_g l7 p1.toNatClampNeg)
      else tr_pr (m, l1, l2, l3, l4, l5, l6, l7, l8, l9, tr_s l10 ((3 * p0) + tr_g l2 p1.toNatClampNeg).toNatClampNeg (tr_g l3 p1.toNatClampNeg), l11, l12, l13, l14, l15) p0 p1 else none else none
theorem tr_le_ok {post : St2 → Prop} {p0 p1 : Int32} (h : tr_w (tr_le (m, l1, l2, l3, l4, l5, l6, l7, l8, l9, l10, l11, l12, l13, l14, l15) p0 p1) (fun Q => post (tr_cv e Q))) : wpX_learn post (m, tr_g l1, tr_g l2, tr_g l3, tr_h e l4, tr_g l5, tr_g l6, tr_g l7, tr_g l8, tr_g l9, tr_g l10, tr_g l11, tr_g l12, tr_g l13, tr_g l14, tr_g l15) p0 p1 := by
  have ⟨i1, h⟩ := tr_wg h
  have ⟨i2, h⟩ := tr_wg h
  refine ⟨tr_iv i1, tr_iv i1, tr_iv i2, nm_r (tr_gs _ _ _) ⟨tr_iv i1, tr_wi h (fun h => ⟨tr_iv i1, tr_ta_ok (tr_wm h ?_)⟩) (fun h => tr_pr_ok (tr_wm h ?_))⟩⟩
  · rintro ⟨qm, q1, q2, q3, q4, q5, q6, q7, q8, q9, q10, q11, q12, q13, q14, q15⟩ hq
    exact hq
  · rintro ⟨qm, q1, q2, q3, q4, q5, q6, q7, q8, q9, q10, q11, q12, q13, q14, q15⟩ hq
    exact hq
/-- insert, behind the anchor -/
def tr_i48 (P : tr_P) (x1 q z0 : Int32) : Option (Int32 × tr_P) := (tr_nc P x1 1).bind (fun z => match z with
  | (r, km, k1, k2, k3, k4, k5, k6, k7, k8, k9, k10, k11, k12, k13, k14, k15) => if tr_in r 48 then if tr_in x1 3 then (tr_le (km, k1, k2, k3, tr_s k4 r.toNatClampNeg q, tr_s k5 r.toNatClampNeg z0, tr_s k6 r.toNatClampNeg (tr_g k11 x1.toNatClampNeg + 1), k7, k8, k9, k10, k11, k12, k13, k14, k15) x1 r).bind (fun Q => match Q with
      | (jm, j1, j2, j3, j4, j5, j6, j7, j8, j9, j10, j11, j12, j13, j14, j15) => some (tr_g j15 x1.toNatClampNeg, (jm, j1, j2, j3, j4, j5, j6, j7, j8, j9, j10, j11, j12, j13, j14, j15))) else none else none)
theorem tr_i48_ok {post : Int32 → St2 → Prop} {x1 q z0 : Int32} (h : tr_w (tr_i48 (m, l1, l2, l3, l4, l5, l6, l7, l8, l9, l10, l11, l12, l13, l14, l15) x1 q z0) (fun z => post z.1 (tr_cv e z.2))) : wX_insert_48 post x1 (e q) z0 m (tr_g l1) (tr_g l2) (tr_g l3) (tr_h e l4) (tr_g l5) (tr_g l6) (tr_g l7) (tr_g l8) (tr_g l9) (tr_g l10) (tr_g l11) (tr_g l12) (tr_g l13) (tr_g l14) (tr_g l15) := by
  refine tr_nc_ok (tr_wm (tr_wb h) ?_)
  rintro ⟨r, km, k1, k2, k3, k4, k5, k6, k7, k8, k9, k10, k11, k12, k13, k14, k15⟩ h
  have ⟨i1, h⟩ := tr_wg h
  have ⟨i2, h⟩ := tr_wg h
  refine ⟨tr_iv i1, nm_r (tr_hs _ _ _ _) ⟨tr_iv i1, nm_r (tr_gs _ _ _) ⟨tr_iv i2, tr_iv i1, nm_r (tr_gs _ _ _) (tr_le_ok (tr_wm (tr_wb h) ?_))⟩⟩⟩
  rintro ⟨jm, j1, j2, j3, j4, j5, j6, j7, j8, j9, j10, j11, j12, j13, j14, j15⟩ h
  exact ⟨tr_iv i2, (tr_ws h :)⟩
/-- insert -/
def tr_ii (P : tr_P) (p0 p1 q : Int32) : Option (Int32 × tr_P) := match P with
  | (m, l1, l2, l3, l4, l5, l6, l7, l8, l9, l10, l11, l12, l13, l14, l15) => if tr_rp p0 then if p1 < 0 then none else if tr_g l15 p0.toNatClampNeg < p1 then none else if m < 48 then
      if p1 = 0 then tr_i48 (m, l1, l2, l3, l4, l5, l6, l7, l8, l9, l10, l11, l12, l13, l14, l15) p0 q (-1) else (tr_ia l12 l13 p0 (p1 - 1)).bind (fun r => tr_i48 (m, l1, l2, l3, l4, l5, l6, l7, l8, l9, l10, l11, l12, l13, l14, l15) p0 q r) else none else none
theorem tr_ii_ok {post : Int32 → St2 → Prop} {p0 p1 q : Int32} (h : tr_w (tr_ii (m, l1, l2, l3, l4, l5, l6, l7, l8, l9, l10, l11, l12, l13, l14, l15) p0 p1 q) (fun z => post z.1 (tr_cv e z.2))) : wpX_insert post (m, tr_g l1, tr_g l2, tr_g l3, tr_h e l4, tr_g l5, tr_g l6, tr_g l7, tr_g l8, tr_g l9, tr_g l10, tr_g l11, tr_g l12, tr_g l13, tr_g l14, tr_g l15) p0 p1 (e q) := by
  have ⟨i1, h⟩ := tr_wg h
  have ⟨i2, h⟩ := tr_wk h
  have ⟨i3, h⟩ := tr_wk h
  have ⟨i4, h⟩ := tr_wg h
  unfold wpX_insert
  refine tr_rep i1 ?_
  exact br_f (by decide) (br_f i2 ⟨tr_r3 i1, br_f i3 (br_t i4 (tr_wi h (fun h => tr_i48_ok h) (fun h => tr_ia_ok (tr_wm (tr_wb h) (fun r h => tr_i48_ok h)))))⟩)
/-- isKnown -/
def tr_kn (l2 l3 l10 : tr_L) (p0 p1 : Int32) : Option Int32 := if tr_in p1 48 then if tr_in ((3 * p0) + tr_g l2 p1.toNatClampNeg) 9 then
    if tr_g l10 ((3 * p0) + tr_g l2 p1.toNatClampNeg).toNatClampNeg < tr_g l3 p1.toNatClampNeg then some 0 else some 1 else none else none
theorem tr_kn_ok {post : Int32 → Prop} {p0 p1 : Int32} (h : tr_w (tr_kn l2 l3 l10 p0 p1) post) : wpX_isKnown post (m, tr_g l1, tr_g l2, tr_g l3, tr_h e l4, tr_g l5, tr_g l6, tr_g l7, tr_g l8, tr_g l9, tr_g l10, tr_g l11, tr_g l12, tr_g l13, tr_g l14, tr_g l15) p0 p1 := by
  have ⟨i1, h⟩ := tr_wg h
  have ⟨i2, h⟩ := tr_wg h
  exact ⟨tr_iv i1, tr_iv i1, tr_iv i2, tr_wi h (fun h => (tr_ws h :)) (fun h => (tr_ws h :))⟩
/-- deliver: the learning -/
def tr_d10 (P : tr_P) (x2 x4 : Int32) : Option (Int32 × tr_P) := (tr_le P x2 x4).bind (fun Q => some (0, Q))
theorem tr_d10_ok {post : Int32 → St2 → Prop} {x2 x4 : Int32} (h : tr_w (tr_d10 (m, l1, l2, l3, l4, l5, l6, l7, l8, l9, l10, l11, l12, l13, l14, l15) x2 x4) (fun z => post z.1 (tr_cv e z.2))) : wX_deliver_101 post x2 x4 m (tr_g l1) (tr_g l2) (tr_g l3) (tr_h e l4) (tr_g l5) (tr_g l6) (tr_g l7) (tr_g l8) (tr_g l9) (tr_g l10) (tr_g l11) (tr_g l12) (tr_g l13) (tr_g l14) (tr_g l15) := by
  refine tr_le_ok (tr_wm (tr_wb h) ?_)
  rintro ⟨jm, j1, j2, j3, j4, j5, j6, j7, j8, j9, j10, j11, j12, j13, j14, j15⟩ h
  exact (tr_ws h :)
/-- deliver, behind the choice of what is needed -/
def tr_d81 (P : tr_P) (x2 x4 z0 : Int32) : Option (Int32 × tr_P) := match P with
  | (m, l1, l2, l3, l4, l5, l6, l7, l8, l9, l10, l11, l12, l13, l14, l15) => if z0 < 0 then tr_d10 (m, l1, l2, l3, l4, l5, l6, l7, l8, l9, l10, l11, l12, l13, l14, l15) x2 x4 else (tr_kn l2 l3 l10 x2 z0).bind (fun r => if r = 0 then some (-2, (m, l1, l2, l3, l4, l5, l6, l7, l8, l9, l10, l11, l12, l13, l14, l15)) else tr_d10 (m, l1, l2, l3, l4, l5, l6, l7, l8, l9, l10, l11, l12, l13, l14, l15) x2 x4)
theorem tr_d81_ok {post : Int32 → St2 → Prop} {x2 x4 z0 : Int32} (h : tr_w (tr_d81 (m, l1, l2, l3, l4, l5, l6, l7, l8, l9, l10, l11, l12, l13, l14, l15) x2 x4 z0) (fun z => post z.1 (tr_cv e z.2))) : wX_deliver_81 post x2 x4 z0 m (tr_g l1) (tr_g l2) (tr_g l3) (tr_h e l4) (tr_g l5) (tr_g l6) (tr_g l7) (tr_g l8) (tr_g l9) (tr_g l10) (tr_g l11) (tr_g l12) (tr_g l13) (tr_g l14) (tr_g l15) :=
  tr_wi h (fun h => tr_d10_ok h) (fun h => tr_kn_ok (tr_wm (tr_wb h) (fun r h => tr_wi h (fun h => (tr_ws h :)) (fun h => tr_d10_ok h))))
/-- deliver -/
def tr_de (P : tr_P) (p0 p1 : Int32) : Option (Int32 × tr_P) := match P with
  | (m, l1, l2, l3, l4, l5, l6, l7, l8, l9, l10, l11, l12, l13, l14, l15) => if tr_rp p0 then if tr_rp p1 then if tr_in ((3 * p1) + p0) 9 then
      if (tr_g l10 ((3 * p1) + p0).toNatClampNeg + 1) ≤ tr_g l8 p0.toNatClampNeg then (if tr_in ((49 * p0) + (tr_g l10 ((3 * p1) + p0).toNatClampNeg + 1)) 147 then if tr_in (tr_g l9 ((49 * p0) + (tr_g l10 ((3 * p1) + p0).toNatClampNeg + 1)).toNatClampNeg) 48 then
        if tr_g l1 (tr_g l9 ((49 * p0) + (tr_g l10 ((3 * p1) + p0).toNatClampNeg + 1)).toNatClampNeg).toNatClampNeg = 0 then tr_d81 (m, l1, l2, l3, l4, l5, l6, l7, l8, l9, l10, l11, l12, l13, l14, l15) p1 (tr_g l9 ((49 * p0) + (tr_g l10 ((3 * p1) + p0).toNatClampNeg + 1)).toNatClampNeg) (tr_g l7 (tr_g l9 ((49 * p0) + (tr_g l10 ((3 * p1) + p0).toNatClampNeg + 1)).toNatClampNeg).toNatClampNeg)
        else tr_d81 (m, l1, l2, l3, l4, l5, l6, l7, l8, l9, l10, l11, l12, l13, l14, l15) p1 (tr_g l9 ((49 * p0) + (tr_g l10 ((3 * p1) + p0).toNatClampNeg + 1)).toNatClampNeg) (tr_g l5 (tr_g l9 ((49 * p0) + (tr_g l10 ((3 * p1) + p0).toNatClampNeg + 1)).toNatClampNeg).toNatClampNeg) else none else none)
      else some (-1, (m, l1, l2, l3, l4, l5, l6, l7, l8, l9, l10, l11, l12, l13, l14, l15)) else none else none else none
theorem tr_de_ok {post : Int32 → St2 → Prop} {p0 p1 : Int32} (h : tr_w (tr_de (m, l1, l2, l3, l4, l5, l6, l7, l8, l9, l10, l11, l12, l13, l14, l15) p0 p1) (fun z => post z.1 (tr_cv e z.2))) : wpX_deliver post (m, tr_g l1, tr_g l2, tr_g l3, tr_h e l4, tr_g l5, tr_g l6, tr_g l7, tr_g l8, tr_g l9, tr_g l10, tr_g l11, tr_g l12, tr_g l13, tr_g l14, tr_g l15) p0 p1 := by
  have ⟨i1, h⟩ := tr_wg h
  have ⟨i2, h⟩ := tr_wg h
  have ⟨i3, h⟩ := tr_wg h
  unfold wpX_deliver
  refine tr_rep i1 ?_
  refine br_f (by decide) (tr_rep i2 ?_)
  refine br_f (by decide) ⟨tr_iv i3, nm_e ⟨tr_r3 i1, tr_wi h (fun h => ?_) (fun h => (tr_ws h :))⟩⟩
  have ⟨i4, h⟩ := tr_wg h
  have ⟨i5, h⟩ := tr_wg h
  exact ⟨tr_iv i4, nm_e ⟨tr_iv i5, tr_wi h (fun h => ⟨tr_iv i5, tr_d81_ok h⟩) (fun h => ⟨tr_iv i5, tr_d81_ok h⟩)⟩⟩
/-- letter: the letter's number -/
def tr_lt (l4 l12 l13 l15 : tr_L) (p0 p1 : Int32) : Option Int32 := if tr_rp p0 then if p1 < 0 then none else if p1 < tr_g l15 p0.toNatClampNeg then
    (tr_ia l12 l13 p0 p1).bind (fun r => if tr_in r 48 then some (tr_g l4 r.toNatClampNeg) else none) else none else none
theorem tr_lt_ok {post : Int32 → Prop} {p0 p1 : Int32} (h : tr_w (tr_lt l4 l12 l13 l15 p0 p1) (fun r => post (e r))) : wpX_letter post (m, tr_g l1, tr_g l2, tr_g l3, tr_h e l4, tr_g l5, tr_g l6, tr_g l7, tr_g l8, tr_g l9, tr_g l10, tr_g l11, tr_g l12, tr_g l13, tr_g l14, tr_g l15) p0 p1 := by
  have ⟨i1, h⟩ := tr_wg h
  have ⟨i2, h⟩ := tr_wk h
  have ⟨i3, h⟩ := tr_wg h
  unfold wpX_letter
  refine tr_rep i1 ?_
  refine br_f (by decide) (br_f i2 ⟨tr_r3 i1, br_t i3 (tr_ia_ok (tr_wm (tr_wb h) ?_))⟩)
  intro r h
  have ⟨i4, h⟩ := tr_wg h
  exact ⟨tr_iv i4, (tr_ws h :)⟩
/-- row and length -/
def tr_ro (l : tr_L) (p0 : Int32) : Option Int32 := if tr_rp p0 then some (tr_g l p0.toNatClampNeg) else none
theorem tr_ro_ok {post : Int32 → Prop} {p0 : Int32} (h : tr_w (tr_ro l14 p0) post) : wpX_row post (m, tr_g l1, tr_g l2, tr_g l3, tr_h e l4, tr_g l5, tr_g l6, tr_g l7, tr_g l8, tr_g l9, tr_g l10, tr_g l11, tr_g l12, tr_g l13, tr_g l14, tr_g l15) p0 := by
  have ⟨i1, h⟩ := tr_wg h
  unfold wpX_row
  refine tr_rep i1 ?_
  exact br_f (by decide) ⟨tr_r3 i1, (tr_ws h :)⟩
theorem tr_ln_ok {post : Int32 → Prop} {p0 : Int32} (h : tr_w (tr_ro l15 p0) post) : wpX_length post (m, tr_g l1, tr_g l2, tr_g l3, tr_h e l4, tr_g l5, tr_g l6, tr_g l7, tr_g l8, tr_g l9, tr_g l10, tr_g l11, tr_g l12, tr_g l13, tr_g l14, tr_g l15) p0 := by
  have ⟨i1, h⟩ := tr_wg h
  unfold wpX_length
  refine tr_rep i1 ?_
  exact br_f (by decide) ⟨tr_r3 i1, (tr_ws h :)⟩
/-- known -/
def tr_ko (l10 : tr_L) (p0 p1 : Int32) : Option Int32 := if tr_rp p0 then if tr_rp p1 then if tr_in ((3 * p0) + p1) 9 then some (tr_g l10 ((3 * p0) + p1).toNatClampNeg) else none else none else none
theorem tr_ko_ok {post : Int32 → Prop} {p0 p1 : Int32} (h : tr_w (tr_ko l10 p0 p1) post) : wpX_known post (m, tr_g l1, tr_g l2, tr_g l3, tr_h e l4, tr_g l5, tr_g l6, tr_g l7, tr_g l8, tr_g l9, tr_g l10, tr_g l11, tr_g l12, tr_g l13, tr_g l14, tr_g l15) p0 p1 := by
  have ⟨i1, h⟩ := tr_wg h
  have ⟨i2, h⟩ := tr_wg h
  have ⟨i3, h⟩ := tr_wg h
  unfold wpX_known
  refine tr_rep i1 ?_
  refine br_f (by decide) (tr_rep i2 ?_)
  exact br_f (by decide) ⟨tr_iv i3, (tr_ws h :)⟩
/-- replica 3: there is none -/
theorem tr_ii_no {post : Int32 → St2 → Prop} {p1 p2 : Int32} (H : post (-1) (m, tr_g l1, tr_g l2, tr_g l3, tr_h e l4, tr_g l5, tr_g l6, tr_g l7, tr_g l8, tr_g l9, tr_g l10, tr_g l11, tr_g l12, tr_g l13, tr_g l14, tr_g l15)) : wpX_insert post (m, tr_g l1, tr_g l2, tr_g l3, tr_h e l4, tr_g l5, tr_g l6, tr_g l7, tr_g l8, tr_g l9, tr_g l10, tr_g l11, tr_g l12, tr_g l13, tr_g l14, tr_g l15) 3 p1 p2 := by
  unfold wpX_insert
  unfold wpX_isReplica
  exact br_f (by decide) (br_t (by decide) (br_t rfl H))
theorem tr_al_no {post : Int32 → Prop} (H : post (-1)) : wpX_alike post (m, tr_g l1, tr_g l2, tr_g l3, tr_h e l4, tr_g l5, tr_g l6, tr_g l7, tr_g l8, tr_g l9, tr_g l10, tr_g l11, tr_g l12, tr_g l13, tr_g l14, tr_g l15) 0 3 := by
  unfold wpX_alike
  refine tr_rep (by decide) ?_
  refine br_f (by decide) ?_
  unfold wpX_isReplica
  exact br_f (by decide) (br_t (by decide) (br_t rfl H))
/-- delete -/
def tr_dl (P : tr_P) (p0 p1 : Int32) : Option (Int32 × tr_P) := match P with
  | (m, l1, l2, l3, l4, l5, l6, l7, l8, l9, l10, l11, l12, l13, l14, l15) => if tr_rp p0 then if p1 < 0 then none else if tr_g l15 p0.toNatClampNeg ≤ p1 then none else if m < 48 then
      (tr_ia l12 l13 p0 p1).bind (fun t => (tr_nc (m, l1, l2, l3, l4, l5, l6, l7, l8, l9, l10, l11, l12, l13, l14, l15) p0 0).bind (fun z => match z with
      | (r, km, k1, k2, k3, k4, k5, k6, k7, k8, k9, k10, k11, k12, k13, k14, k15) => if tr_in r 48 then (tr_le (km, k1, k2, k3, k4, k5, k6, tr_s k7 r.toNatClampNeg t, k8, k9, k10, k11, k12, k13, k14, k15) p0 r).bind (fun Q => match Q with
        | (jm, j1, j2, j3, j4, j5, j6, j7, j8, j9, j10, j11, j12, j13, j14, j15) => some (tr_g j15 p0.toNatClampNeg, (jm, j1, j2, j3, j4, j5, j6, j7, j8, j9, j10, j11, j12, j13, j14, j15))) else none)) else none else none
theorem tr_dl_ok {post : Int32 → St2 → Prop} {p0 p1 : Int32} (h : tr_w (tr_dl (m, l1, l2, l3, l4, l5, l6, l7, l8, l9, l10, l11, l12, l13, l14, l15) p0 p1) (fun z => post z.1 (tr_cv e z.2))) : wpX_delete post (m, tr_g l1, tr_g l2, tr_g l3, tr_h e l4, tr_g l5, tr_g l6, tr_g l7, tr_g l8, tr_g l9, tr_g l10, tr_g l11, tr_g l12, tr_g l13, tr_g l14, tr_g l15) p0 p1 := by
  have ⟨i1, h⟩ := tr_wg h
  have ⟨i2, h⟩ := tr_wk h
  have ⟨i3, h⟩ := tr_wk h
  have ⟨i4, h⟩ := tr_wg h
  unfold wpX_delete
  refine tr_rep i1 ?_
  refine br_f (by decide) (br_f i2 ⟨tr_r3 i1, br_f i3 (br_t i4 (tr_ia_ok (tr_wm (tr_wb h) (fun t h => tr_nc_ok (tr_wm (tr_wb h) ?_)))))⟩)
  rintro ⟨r, km, k1, k2, k3, k4, k5, k6, k7, k8, k9, k10, k11, k12, k13, k14, k15⟩ h
  have ⟨i5, h⟩ := tr_wg h
  refine ⟨tr_iv i5, nm_r (tr_gs _ _ _) (tr_le_ok (tr_wm (tr_wb h) ?_))⟩
  rintro ⟨jm, j1, j2, j3, j4, j5, j6, j7, j8, j9, j10, j11, j12, j13, j14, j15⟩ h
  exact ⟨tr_r3 i1, (tr_ws h :)⟩
/-- delete at no place of the text -/
theorem tr_dl_no {post : Int32 → St2 → Prop} {p0 p1 : Int32} (h : tr_rp p0 = true) (o : p1 < 0 ∨ ¬ p1 < 0 ∧ tr_g l15 p0.toNatClampNeg ≤ p1) (H : post (-1) (m, tr_g l1, tr_g l2, tr_g l3, tr_h e l4, tr_g l5, tr_g l6, tr_g l7, tr_g l8, tr_g l9, tr_g l10, tr_g l11, tr_g l12, tr_g l13, tr_g l14, tr_g l15)) : wpX_delete post (m, tr_g l1, tr_g l2, tr_g l3, tr_h e l4, tr_g l5, tr_g l6, tr_g l7, tr_g l8, tr_g l9, tr_g l10, tr_g l11, tr_g l12, tr_g l13, tr_g l14, tr_g l15) p0 p1 := by
  unfold wpX_delete
  refine tr_rep h ?_
  rcases o with o | ⟨o, o2⟩
  · exact br_f (by decide) (br_t o H)
  · exact br_f (by decide) (br_f o ⟨tr_r3 h, br_t o2 H⟩)
/-- shown's loop -/
def tr_shL (l12 l13 : tr_L) (x1 : Int32) : Nat → Int32 → Int32 → Option Int32
  | 0, _, _ => none
  | n + 1, x3, x4 => if 48 ≤ x4 then some x3 else if x3 < 0 then some x3 else if tr_in (((49 * x1) + 1) + x3) 147 then
      if tr_g l13 (((49 * x1) + 1) + x3).toNatClampNeg = 0 then some x3 else tr_shL l12 l13 x1 n (tr_g l12 (((49 * x1) + 1) + x3).toNatClampNeg) (x4 + 1) else none
theorem tr_shL_ok {post : Int32 → Prop} {x1 : Int32} : ∀ (n : Nat) (x3 x4 : Int32), tr_w (tr_shL l12 l13 x1 n x3 x4) post → wX_shown_5 post x1 m (tr_g l1) (tr_g l2) (tr_g l3) (tr_h e l4) (tr_g l5) (tr_g l6) (tr_g l7) (tr_g l8) (tr_g l9) (tr_g l10) (tr_g l11) (tr_g l12) (tr_g l13) (tr_g l14) (tr_g l15) n x3 x4 := by
  intro n
  induction n with
  | zero =>
    intro x3 x4 h
    exact (tr_wn h).elim
  | succ n ih =>
    intro x3 x4 h
    refine tr_wi h (fun h => (tr_ws h :)) (fun h => tr_wi h (fun h => (tr_ws h :)) (fun h => ?_))
    have ⟨i1, h⟩ := tr_wg h
    exact ⟨tr_iv i1, tr_wi h (fun h => (tr_ws h :)) (fun h => ⟨tr_iv i1, nm_e (nm_e (ih _ _ h))⟩)⟩
theorem tr_sh_ok {post : Int32 → Prop} {p0 p1 : Int32} (h : tr_w (tr_shL l12 l13 p0 50 p1 0) post) : wpX_shown post (m, tr_g l1, tr_g l2, tr_g l3, tr_h e l4, tr_g l5, tr_g l6, tr_g l7, tr_g l8, tr_g l9, tr_g l10, tr_g l11, tr_g l12, tr_g l13, tr_g l14, tr_g l15) p0 p1 := ⟨50, tr_shL_ok 50 _ _ h⟩
/-- alike's loop: letters of one number are equal; of two numbers nothing is said -/
def tr_alL (l4 l12 l13 : tr_L) (x1 x2 : Int32) : Nat → Int32 → Int32 → Int32 → Option Int32
  | 0, _, _, _ => none
  | n + 1, x3, x4, x5 => if 48 ≤ x5 then some 1 else if x3 < 0 then some 1 else if x4 < 0 then some 1 else if tr_in x3 48 then if tr_in x4 48 then
      if tr_g l4 x3.toNatClampNeg = tr_g l4 x4.toNatClampNeg then if tr_in (((49 * x1) + 1) + x3) 147 then (tr_shL l12 l13 x1 50 (tr_g l12 (((49 * x1) + 1) + x3).toNatClampNeg) 0).bind (fun r =>
        if tr_in (((49 * x2) + 1) + x4) 147 then (tr_shL l12 l13 x2 50 (tr_g l12 (((49 * x2) + 1) + x4).toNatClampNeg) 0).bind (fun s => tr_alL l4 l12 l13 x1 x2 n r s (x5 + 1)) else none) else none else none else none else none
theorem tr_alL_ok {post : Int32 → Prop} {x1 x2 : Int32} : ∀ (n : Nat) (x3 x4 x5 : Int32), tr_w (tr_alL l4 l12 l13 x1 x2 n x3 x4 x5) post → wX_alike_67 post x1 x2 m (tr_g l1) (tr_g l2) (tr_g l3) (tr_h e l4) (tr_g l5) (tr_g l6) (tr_g l7) (tr_g l8) (tr_g l9) (tr_g l10) (tr_g l11) (tr_g l12) (tr_g l13) (tr_g l14) (tr_g l15) n x3 x4 x5 := by
  intro n
  induction n with
  | zero =>
    intro x3 x4 x5 h
    exact (tr_wn h).elim
  | succ n ih =>
    intro x3 x4 x5 h
    refine tr_wi h (fun h => (tr_ws h :)) (fun h => tr_wi h (fun h => (tr_ws h :)) (fun h => tr_wi h (fun h => (tr_ws h :)) (fun h => ?_)))
    have ⟨i1, h⟩ := tr_wg h
    have ⟨i2, h⟩ := tr_wg h
    have ⟨i3, h⟩ := tr_wg h
    have ⟨i4, h⟩ := tr_wg h
    refine ⟨tr_iv i1, tr_iv i2, br_t (congrArg e i3) ⟨tr_iv i4, tr_sh_ok (tr_wm (tr_wb h) ?_)⟩⟩
    intro r h
    have ⟨i5, h⟩ := tr_wg h
    exact ⟨tr_iv i5, tr_sh_ok (tr_wm (tr_wb h) (fun s h => nm_e (ih _ _ _ h)))⟩
/-- alike -/
def tr_al (l4 l12 l13 l15 : tr_L) (p0 p1 : Int32) : Option Int32 := if tr_rp p0 then if tr_rp p1 then if tr_g l15 p0.toNatClampNeg = tr_g l15 p1.toNatClampNeg then
    (if tr_in (49 * p0) 147 then (tr_shL l12 l13 p0 50 (tr_g l12 (49 * p0).toNatClampNeg) 0).bind (fun r =>
      if tr_in (49 * p1) 147 then (tr_shL l12 l13 p1 50 (tr_g l12 (49 * p1).toNatClampNeg) 0).bind (fun s => tr_alL l4 l12 l13 p0 p1 50 r s 0) else none) else none)
    else some 0 else none else none
theorem tr_al_ok {post : Int32 → Prop} {p0 p1 : Int32} (h : tr_w (tr_al l4 l12 l13 l15 p0 p1) post) : wpX_alike post (m, tr_g l1, tr_g l2, tr_g l3, tr_h e l4, tr_g l5, tr_g l6, tr_g l7, tr_g l8, tr_g l9, tr_g l10, tr_g l11, tr_g l12, tr_g l13, tr_g l14, tr_g l15) p0 p1 := by
  have ⟨i1, h⟩ := tr_wg h
  have ⟨i2, h⟩ := tr_wg h
  unfold wpX_alike
  refine tr_rep i1 ?_
  refine br_f (by decide) (tr_rep i2 ?_)
  refine br_f (by decide) ⟨tr_r3 i1, tr_r3 i2, tr_wi h (fun h => ?_) (fun h => (tr_ws h :))⟩
  have ⟨i3, h⟩ := tr_wg h
  refine ⟨tr_iv i3, tr_sh_ok (tr_wm (tr_wb h) ?_)⟩
  intro r h
  have ⟨i4, h⟩ := tr_wg h
  exact ⟨tr_iv i4, tr_sh_ok (tr_wm (tr_wb h) (fun s h => ⟨50, tr_alL_ok 50 _ _ _ h⟩))⟩
/-- sync's loop -/
def tr_syL (x1 x2 : Int32) : Nat → Int32 → tr_P → Option tr_P
  | 0, _, _ => none
  | n + 1, x3, (m, l1, l2, l3, l4, l5, l6, l7, l8, l9, l10, l11, l12, l13, l14, l15) => if m ≤ x3 then some (m, l1, l2, l3, l4, l5, l6, l7, l8, l9, l10, l11, l12, l13, l14, l15) else (tr_kn l2 l3 l10 x1 x3).bind (fun r => if r = 0 then tr_syL x1 x2 n (x3 + 1) (m, l1, l2, l3, l4, l5, l6, l7, l8, l9, l10, l11, l12, l13, l14, l15) else
      (tr_kn l2 l3 l10 x2 x3).bind (fun s => if s = 0 then (tr_le (m, l1, l2, l3, l4, l5, l6, l7, l8, l9, l10, l11, l12, l13, l14, l15) x2 x3).bind (fun Q => tr_syL x1 x2 n (x3 + 1) Q) else tr_syL x1 x2 n (x3 + 1) (m, l1, l2, l3, l4, l5, l6, l7, l8, l9, l10, l11, l12, l13, l14, l15)))
end
theorem tr_syL_ok {e : Int32 → Int32} {post : Int32 → St2 → Prop} {x1 x2 : Int32} : ∀ (n : Nat) (x3 m : Int32) (l1 l2 l3 l4 l5 l6 l7 l8 l9 l10 l11 l12 l13 l14 l15 : tr_L), tr_w (tr_syL x1 x2 n x3 (m, l1, l2, l3, l4, l5, l6, l7, l8, l9, l10, l11, l12, l13, l14, l15)) (fun Q => post 0 (tr_cv e Q)) → wX_sync_18 post x1 x2 n x3 m (tr_g l1) (tr_g l2) (tr_g l3) (tr_h e l4) (tr_g l5) (tr_g l6) (tr_g l7) (tr_g l8) (tr_g l9) (tr_g l10) (tr_g l11) (tr_g l12) (tr_g l13) (tr_g l14) (tr_g l15) := by
  intro n
  induction n with
  | zero =>
    intro x3 m l1 l2 l3 l4 l5 l6 l7 l8 l9 l10 l11 l12 l13 l14 l15 h
    exact (tr_wn h).elim
  | succ n ih =>
    intro x3 m l1 l2 l3 l4 l5 l6 l7 l8 l9 l10 l11 l12 l13 l14 l15 h
    refine tr_wi h (fun h => (tr_ws h :)) (fun h => tr_kn_ok (tr_wm (tr_wb h) ?_))
    intro r h
    refine tr_wi h (fun h => nm_e (ih _ _ _ _ _ _ _ _ _ _ _ _ _ _ _ _ _ h)) (fun h => tr_kn_ok (tr_wm (tr_wb h) ?_))
    intro s h
    refine tr_wi h (fun h => tr_le_ok (tr_wm (tr_wb h) ?_)) (fun h => nm_e (ih _ _ _ _ _ _ _ _ _ _ _ _ _ _ _ _ _ h))
    rintro ⟨qm, q1, q2, q3, q4, q5, q6, q7, q8, q9, q10, q11, q12, q13, q14, q15⟩ h
    exact nm_e (ih _ _ _ _ _ _ _ _ _ _ _ _ _ _ _ _ _ h)
section
variable {e : Int32 → Int32} {m : Int32} {l1 l2 l3 l4 l5 l6 l7 l8 l9 l10 l11 l12 l13 l14 l15 : tr_L}
/-- sync -/
def tr_sy (P : tr_P) (p0 p1 : Int32) : Option (Int32 × tr_P) := if tr_rp p0 then if tr_rp p1 then (tr_syL p0 p1 50 0 P).bind (fun Q => some (0, Q)) else none else none
theorem tr_sy_ok {post : Int32 → St2 → Prop} {p0 p1 : Int32} (h : tr_w (tr_sy (m, l1, l2, l3, l4, l5, l6, l7, l8, l9, l10, l11, l12, l13, l14, l15) p0 p1) (fun z => post z.1 (tr_cv e z.2))) : wpX_sync post (m, tr_g l1, tr_g l2, tr_g l3, tr_h e l4, tr_g l5, tr_g l6, tr_g l7, tr_g l8, tr_g l9, tr_g l10, tr_g l11, tr_g l12, tr_g l13, tr_g l14, tr_g l15) p0 p1 := by
  have ⟨i1, h⟩ := tr_wg h
  have ⟨i2, h⟩ := tr_wg h
  unfold wpX_sync
  refine tr_rep i1 ?_
  refine br_f (by decide) (tr_rep i2 ?_)
  refine br_f (by decide) ⟨50, tr_syL_ok 50 _ _ _ _ _ _ _ _ _ _ _ _ _ _ _ _ _ (tr_wm (tr_wb h) ?_)⟩
  intro Q h
  exact (tr_ws h :)
end
/-- a printed answer and picture are the evaluator's -/
def tr_ck (o : Option (Int32 × tr_P)) (r : Int32) (Q : tr_P) : Bool := match o, Q with
  | some (s, m, l1, l2, l3, l4, l5, l6, l7, l8, l9, l10, l11, l12, l13, l14, l15), (qm, q1, q2, q3, q4, q5, q6, q7, q8, q9, q10, q11, q12, q13, q14, q15) => decide (s = r) && (decide (m = qm) && (decide (l1 = q1) && (decide (l2 = q2) && (decide (l3 = q3) && (decide (l4 = q4) && (decide (l5 = q5) && (decide (l6 = q6) && (decide (l7 = q7) && (decide (l8 = q8) && (decide (l9 = q9) && (decide (l10 = q10) && (decide (l11 = q11) && (decide (l12 = q12) && (decide (l13 = q13) && (decide (l14 = q14) && (decide (l15 = q15)))))))))))))))))
  | none, _ => false
theorem tr_ck_ok {o : Option (Int32 × tr_P)} {r : Int32} {Q : tr_P} (h : tr_ck o r Q = true) : o = some (r, Q) := by
  obtain ⟨qm, q1, q2, q3, q4, q5, q6, q7, q8, q9, q10, q11, q12, q13, q14, q15⟩ := Q
  match o, h with
  | some (s, m, l1, l2, l3, l4, l5, l6, l7, l8, l9, l10, l11, l12, l13, l14, l15), h =>
    simp only [tr_ck, Bool.and_eq_true, decide_eq_true_eq] at h
    obtain ⟨rfl, rfl, rfl, rfl, rfl, rfl, rfl, rfl, rfl, rfl, rfl, rfl, rfl, rfl, rfl, rfl, rfl⟩ := h
    rfl
/-- the constructor -/
theorem tr_gk {f : Nat → Int32} {l l' : tr_L} {k : Nat} {x : Int32} (hf : f = tr_g l) (h : tr_s l k x = l') : upd f k x = tr_g l' := by
  rw [hf, tr_gs, h]
theorem tr_init {e : Int32 → Int32} (h0 : e 0 = 0) {post : St2 → Prop} {mc ms : Nat} (hc : 15 ≤ mc) (hs : 798 ≤ ms) (H : post (0, tr_g [], tr_g [], tr_g [], tr_h e [], tr_g [], tr_g [], tr_g [], tr_g [], tr_g [], tr_g [], tr_g [], tr_g [(0, -1), (49, -1), (98, -1)], tr_g [], tr_g [], tr_g [])) : wpX_init post mc ms 0 := by
  rw [tr_h0 h0] at H
  refine ⟨by omega, by omega, by omega, by omega, by omega, by omega, by omega, by omega, by omega, by omega, by omega, by omega, by omega, by omega, by omega, by omega, by omega, by omega, by omega, by omega, by omega, by omega, by omega, by omega, by omega, by omega, by omega, by omega, by omega, by omega, 4, ?_⟩
  refine br_f (by decide) ⟨tr_iv (by decide), nm_r (tr_gk (l := []) (l' := [(0, -1)]) rfl (by decide +kernel)) (nm_r (e' := 1) (by decide) ?_)⟩
  refine br_f (by decide) ⟨tr_iv (by decide), nm_r (tr_gk (l' := [(0, -1), (49, -1)]) rfl (by decide +kernel)) (nm_r (e' := 2) (by decide) ?_)⟩
  refine br_f (by decide) ⟨tr_iv (by decide), nm_r (tr_gk (l' := [(0, -1), (49, -1), (98, -1)]) rfl (by decide +kernel)) (nm_r (e' := 3) (by decide) ?_)⟩
  exact br_t (by decide) H
end
section
def sq_12_0 : tr_L := [(0, -1), (49, -1), (98, -1)]
def sq_1_0 : tr_L := [(0, 1)]
def sq_2_0 : tr_L := [(0, 0)]
def sq_3_0 : tr_L := [(0, 1)]
def sq_4_0 : tr_L := [(0, 1)]
def sq_5_0 : tr_L := [(0, -1)]
def sq_6_0 : tr_L := [(0, 1)]
def sq_8_0 : tr_L := [(0, 1)]
def sq_9_0 : tr_L := [(1, 0)]
def sq_10_0 : tr_L := [(0, 1)]
def sq_11_0 : tr_L := [(0, 1)]
def sq_12_1 : tr_L := [(0, 0), (49, -1), (98, -1), (1, -1)]
def sq_13_0 : tr_L := [(1, 0)]
def sq_14_0 : tr_L := [(0, 1)]
def sq_15_0 : tr_L := [(0, 1)]
def sq_10_1 : tr_L := [(0, 1), (3, 1)]
def sq_11_1 : tr_L := [(0, 1), (1, 1)]
def sq_12_2 : tr_L := [(0, 0), (49, 0), (98, -1), (1, -1), (50, -1)]
def sq_13_1 : tr_L := [(1, 0), (50, 0)]
def sq_14_1 : tr_L := [(0, 1), (1, 1)]
def sq_15_1 : tr_L := [(0, 1), (1, 1)]
def sq_10_2 : tr_L := [(0, 1), (3, 1), (6, 1)]
def sq_11_2 : tr_L := [(0, 1), (1, 1), (2, 1)]
def sq_12_3 : tr_L := [(0, 0), (49, 0), (98, 0), (1, -1), (50, -1), (99, -1)]
def sq_13_2 : tr_L := [(1, 0), (50, 0), (99, 0)]
def sq_14_2 : tr_L := [(0, 1), (1, 1), (2, 1)]
def sq_15_2 : tr_L := [(0, 1), (1, 1), (2, 1)]
def sq_1_1 : tr_L := [(0, 1), (1, 1)]
def sq_2_1 : tr_L := [(0, 0), (1, 1)]
def sq_3_1 : tr_L := [(0, 1), (1, 1)]
def sq_4_1 : tr_L := [(0, 1), (1, 2)]
def sq_5_1 : tr_L := [(0, -1), (1, 0)]
def sq_6_1 : tr_L := [(0, 1), (1, 2)]
def sq_8_1 : tr_L := [(0, 1), (1, 1)]
def sq_9_1 : tr_L := [(1, 0), (50, 1)]
def sq_10_3 : tr_L := [(0, 1), (3, 1), (6, 1), (4, 1)]
def sq_11_3 : tr_L := [(0, 1), (1, 2), (2, 1)]
def sq_12_4 : tr_L := [(0, 0), (49, 0), (98, 0), (1, -1), (50, 1), (99, -1), (51, -1)]
def sq_13_3 : tr_L := [(1, 0), (50, 0), (99, 0), (51, 0)]
def sq_14_3 : tr_L := [(0, 1), (1, 2), (2, 1)]
def sq_15_3 : tr_L := [(0, 1), (1, 2), (2, 1)]
def sq_1_2 : tr_L := [(0, 1), (1, 1), (2, 1)]
def sq_2_2 : tr_L := [(0, 0), (1, 1), (2, 0)]
def sq_3_2 : tr_L := [(0, 1), (1, 1), (2, 2)]
def sq_4_2 : tr_L := [(0, 1), (1, 2), (2, 3)]
def sq_5_2 : tr_L := [(0, -1), (1, 0), (2, 0)]
def sq_6_2 : tr_L := [(0, 1), (1, 2), (2, 2)]
def sq_8_2 : tr_L := [(0, 2), (1, 1)]
def sq_9_2 : tr_L := [(1, 0), (50, 1), (2, 2)]
def sq_10_4 : tr_L := [(0, 2), (3, 1), (6, 1), (4, 1)]
def sq_11_4 : tr_L := [(0, 2), (1, 2), (2, 1)]
def sq_12_5 : tr_L := [(0, 0), (49, 0), (98, 0), (1, 2), (50, 1), (99, -1), (51, -1), (3, -1)]
def sq_13_4 : tr_L := [(1, 0), (50, 0), (99, 0), (51, 0), (3, 0)]
def sq_14_4 : tr_L := [(0, 2), (1, 2), (2, 1)]
def sq_15_4 : tr_L := [(0, 2), (1, 2), (2, 1)]
def sq_1_3 : tr_L := [(0, 1), (1, 1), (2, 1), (3, 1)]
def sq_2_3 : tr_L := [(0, 0), (1, 1), (2, 0), (3, 0)]
def sq_3_3 : tr_L := [(0, 1), (1, 1), (2, 2), (3, 3)]
def sq_4_3 : tr_L := [(0, 1), (1, 2), (2, 3), (3, 4)]
def sq_5_3 : tr_L := [(0, -1), (1, 0), (2, 0), (3, 2)]
def sq_6_3 : tr_L := [(0, 1), (1, 2), (2, 2), (3, 3)]
def sq_8_3 : tr_L := [(0, 3), (1, 1)]
def sq_9_3 : tr_L := [(1, 0), (50, 1), (2, 2), (3, 3)]
def sq_10_5 : tr_L := [(0, 3), (3, 1), (6, 1), (4, 1)]
def sq_11_5 : tr_L := [(0, 3), (1, 2), (2, 1)]
def sq_12_6 : tr_L := [(0, 0), (49, 0), (98, 0), (1, 2), (50, 1), (99, -1), (51, -1), (3, 3), (4, -1)]
def sq_13_5 : tr_L := [(1, 0), (50, 0), (99, 0), (51, 0), (3, 0), (4, 0)]
def sq_14_5 : tr_L := [(0, 3), (1, 2), (2, 1)]
def sq_15_5 : tr_L := [(0, 3), (1, 2), (2, 1)]
def sq_1_4 : tr_L := [(0, 1), (1, 1), (2, 1), (3, 1), (4, 1)]
def sq_2_4 : tr_L := [(0, 0), (1, 1), (2, 0), (3, 0), (4, 2)]
def sq_3_4 : tr_L := [(0, 1), (1, 1), (2, 2), (3, 3), (4, 1)]
def sq_4_4 : tr_L := [(0, 1), (1, 2), (2, 3), (3, 4), (4, 4)]
def sq_5_4 : tr_L := [(0, -1), (1, 0), (2, 0), (3, 2), (4, -1)]
def sq_6_4 : tr_L := [(0, 1), (1, 2), (2, 2), (3, 3), (4, 2)]
def sq_8_4 : tr_L := [(0, 3), (1, 1), (2, 1)]
def sq_9_4 : tr_L := [(1, 0), (50, 1), (2, 2), (3, 3), (99, 4)]
def sq_10_6 : tr_L := [(0, 3), (3, 1), (6, 1), (4, 1), (8, 1)]
def sq_11_6 : tr_L := [(0, 3), (1, 2), (2, 2)]
def sq_12_7 : tr_L := [(0, 0), (49, 0), (98, 4), (1, 2), (50, 1), (99, -1), (51, -1), (3, 3), (4, -1), (103, 0)]
def sq_13_6 : tr_L := [(1, 0), (50, 0), (99, 0), (51, 0), (3, 0), (4, 0), (103, 0)]
def sq_14_6 : tr_L := [(0, 3), (1, 2), (2, 2)]
def sq_15_6 : tr_L := [(0, 3), (1, 2), (2, 2)]
def sq_10_7 : tr_L := [(0, 3), (3, 2), (6, 1), (4, 1), (8, 1)]
def sq_12_8 : tr_L := [(0, 0), (49, 0), (98, 4), (1, 2), (50, 1), (99, -1), (51, 2), (3, 3), (4, -1), (103, 0), (52, -1)]
def sq_13_7 : tr_L := [(1, 0), (50, 0), (99, 0), (51, 0), (3, 0), (4, 0), (103, 0), (52, 0)]
def sq_14_7 : tr_L := [(0, 3), (1, 3), (2, 2)]
def sq_15_7 : tr_L := [(0, 3), (1, 3), (2, 2)]
def sq_1_5 : tr_L := [(0, 1), (1, 1), (2, 1), (3, 1), (4, 1), (5, 0)]
def sq_2_5 : tr_L := [(0, 0), (1, 1), (2, 0), (3, 0), (4, 2), (5, 1)]
def sq_3_5 : tr_L := [(0, 1), (1, 1), (2, 2), (3, 3), (4, 1), (5, 2)]
def sq_7_0 : tr_L := [(5, 0)]
def sq_8_5 : tr_L := [(0, 3), (1, 2), (2, 1)]
def sq_9_5 : tr_L := [(1, 0), (50, 1), (2, 2), (3, 3), (99, 4), (51, 5)]
def sq_10_8 : tr_L := [(0, 3), (3, 2), (6, 1), (4, 2), (8, 1)]
def sq_13_8 : tr_L := [(1, 0), (50, 1), (99, 0), (51, 0), (3, 0), (4, 0), (103, 0), (52, 0)]
def sq_10_9 : tr_L := [(0, 3), (3, 2), (6, 1), (4, 2), (8, 1), (7, 1)]
def sq_12_9 : tr_L := [(0, 0), (49, 0), (98, 4), (1, 2), (50, 1), (99, 1), (51, 2), (3, 3), (4, -1), (103, 0), (52, -1), (100, -1)]
def sq_13_9 : tr_L := [(1, 0), (50, 1), (99, 0), (51, 0), (3, 0), (4, 0), (103, 0), (52, 0), (100, 0)]
def sq_14_8 : tr_L := [(0, 3), (1, 3), (2, 3)]
def sq_15_8 : tr_L := [(0, 3), (1, 2), (2, 3)]
def sq_10_10 : tr_L := [(0, 3), (3, 2), (6, 1), (4, 2), (8, 1), (7, 2)]
def sq_13_10 : tr_L := [(1, 0), (50, 1), (99, 1), (51, 0), (3, 0), (4, 0), (103, 0), (52, 0), (100, 0)]
def sq_10_11 : tr_L := [(0, 3), (3, 2), (6, 1), (4, 2), (8, 1), (7, 2), (1, 2), (2, 1)]
def sq_12_10 : tr_L := [(0, 4), (49, 0), (98, 4), (1, 1), (50, 1), (99, 1), (51, 2), (3, 3), (4, -1), (103, 0), (52, -1), (100, -1), (2, 2), (5, 0)]
def sq_13_11 : tr_L := [(1, 1), (50, 1), (99, 1), (51, 0), (3, 0), (4, 0), (103, 0), (52, 0), (100, 0), (2, 0), (5, 0)]
def sq_14_9 : tr_L := [(0, 5), (1, 3), (2, 3)]
def sq_15_9 : tr_L := [(0, 4), (1, 2), (2, 2)]
def sq_1_6 : tr_L := [(0, 1), (1, 1), (2, 1), (3, 1), (4, 1), (5, 0), (6, 0)]
def sq_2_6 : tr_L := [(0, 0), (1, 1), (2, 0), (3, 0), (4, 2), (5, 1), (6, 0)]
def sq_3_6 : tr_L := [(0, 1), (1, 1), (2, 2), (3, 3), (4, 1), (5, 2), (6, 4)]
def sq_7_1 : tr_L := [(5, 0), (6, 4)]
def sq_8_6 : tr_L := [(0, 4), (1, 2), (2, 1)]
def sq_9_6 : tr_L := [(1, 0), (50, 1), (2, 2), (3, 3), (99, 4), (51, 5), (4, 6)]
def sq_10_12 : tr_L := [(0, 4), (3, 2), (6, 1), (4, 2), (8, 1), (7, 2), (1, 2), (2, 1)]
def sq_13_12 : tr_L := [(1, 1), (50, 1), (99, 1), (51, 0), (3, 0), (4, 0), (103, 0), (52, 0), (100, 0), (2, 0), (5, 1)]
def sq_10_13 : tr_L := [(0, 4), (3, 2), (6, 2), (4, 2), (8, 1), (7, 2), (1, 2), (2, 1)]
def sq_12_11 : tr_L := [(0, 4), (49, 0), (98, 4), (1, 1), (50, 1), (99, 1), (51, 2), (3, 3), (4, -1), (103, 0), (52, -1), (100, 2), (2, 2), (5, 0), (101, -1)]
def sq_13_13 : tr_L := [(1, 1), (50, 1), (99, 1), (51, 0), (3, 0), (4, 0), (103, 0), (52, 0), (100, 0), (2, 0), (5, 1), (101, 0)]
def sq_14_10 : tr_L := [(0, 5), (1, 3), (2, 4)]
def sq_10_14 : tr_L := [(0, 4), (3, 2), (6, 3), (4, 2), (8, 1), (7, 2), (1, 2), (2, 1)]
def sq_11_7 : tr_L := [(0, 3), (1, 2), (2, 3)]
def sq_12_12 : tr_L := [(0, 4), (49, 0), (98, 4), (1, 1), (50, 1), (99, 1), (51, 2), (3, 3), (4, -1), (103, 0), (52, -1), (100, 2), (2, 2), (5, 0), (101, 3), (102, -1)]
def sq_13_14 : tr_L := [(1, 1), (50, 1), (99, 1), (51, 0), (3, 0), (4, 0), (103, 0), (52, 0), (100, 0), (2, 0), (5, 1), (101, 0), (102, 0)]
def sq_14_11 : tr_L := [(0, 5), (1, 3), (2, 5)]
def sq_15_10 : tr_L := [(0, 3), (1, 2), (2, 4)]
def sq_10_15 : tr_L := [(0, 4), (3, 2), (6, 4), (4, 2), (8, 1), (7, 2), (1, 2), (2, 1)]
def sq_13_15 : tr_L := [(1, 1), (50, 1), (99, 1), (51, 0), (3, 0), (4, 0), (103, 1), (52, 0), (100, 0), (2, 0), (5, 1), (101, 0), (102, 0)]
def sq_1_7 : tr_L := [(0, 1), (1, 1), (2, 1), (3, 1), (4, 1), (5, 0), (6, 0), (7, 1)]
def sq_2_7 : tr_L := [(0, 0), (1, 1), (2, 0), (3, 0), (4, 2), (5, 1), (6, 0), (7, 1)]
def sq_3_7 : tr_L := [(0, 1), (1, 1), (2, 2), (3, 3), (4, 1), (5, 2), (6, 4), (7, 3)]
def sq_4_5 : tr_L := [(0, 1), (1, 2), (2, 3), (3, 4), (4, 4), (7, 1)]
def sq_5_5 : tr_L := [(0, -1), (1, 0), (2, 0), (3, 2), (4, -1), (7, 2)]
def sq_6_5 : tr_L := [(0, 1), (1, 2), (2, 2), (3, 3), (4, 2), (7, 3)]
def sq_8_7 : tr_L := [(0, 4), (1, 3), (2, 1)]
def sq_9_7 : tr_L := [(1, 0), (50, 1), (2, 2), (3, 3), (99, 4), (51, 5), (4, 6), (52, 7)]
def sq_10_16 : tr_L := [(0, 4), (3, 2), (6, 4), (4, 3), (8, 1), (7, 2), (1, 2), (2, 1)]
def sq_11_8 : tr_L := [(0, 3), (1, 3), (2, 3)]
def sq_12_13 : tr_L := [(0, 4), (49, 0), (98, 4), (1, 1), (50, 1), (99, 1), (51, 2), (3, 3), (4, -1), (103, 0), (52, 7), (100, 2), (2, 2), (5, 0), (101, 3), (102, -1), (57, -1)]
def sq_13_16 : tr_L := [(1, 1), (50, 1), (99, 1), (51, 0), (3, 0), (4, 0), (103, 1), (52, 0), (100, 0), (2, 0), (5, 1), (101, 0), (102, 0), (57, 0)]
def sq_14_12 : tr_L := [(0, 5), (1, 4), (2, 5)]
def sq_15_11 : tr_L := [(0, 3), (1, 3), (2, 3)]
def sq_1_8 : tr_L := [(0, 1), (1, 1), (2, 1), (3, 1), (4, 1), (5, 0), (6, 0), (7, 1), (8, 1)]
def sq_2_8 : tr_L := [(0, 0), (1, 1), (2, 0), (3, 0), (4, 2), (5, 1), (6, 0), (7, 1), (8, 2)]
def sq_3_8 : tr_L := [(0, 1), (1, 1), (2, 2), (3, 3), (4, 1), (5, 2), (6, 4), (7, 3), (8, 2)]
def sq_4_6 : tr_L := [(0, 1), (1, 2), (2, 3), (3, 4), (4, 4), (7, 1), (8, 3)]
def sq_5_6 : tr_L := [(0, -1), (1, 0), (2, 0), (3, 2), (4, -1), (7, 2), (8, -1)]
def sq_6_6 : tr_L := [(0, 1), (1, 2), (2, 2), (3, 3), (4, 2), (7, 3), (8, 4)]
def sq_8_8 : tr_L := [(0, 4), (1, 3), (2, 2)]
def sq_9_8 : tr_L := [(1, 0), (50, 1), (2, 2), (3, 3), (99, 4), (51, 5), (4, 6), (52, 7), (100, 8)]
def sq_10_17 : tr_L := [(0, 4), (3, 2), (6, 4), (4, 3), (8, 2), (7, 2), (1, 2), (2, 1)]
def sq_11_9 : tr_L := [(0, 3), (1, 3), (2, 4)]
def sq_12_14 : tr_L := [(0, 4), (49, 0), (98, 8), (1, 1), (50, 1), (99, 1), (51, 2), (3, 3), (4, -1), (103, 0), (52, 7), (100, 2), (2, 2), (5, 0), (101, 3), (102, -1), (57, -1), (107, 4)]
def sq_13_17 : tr_L := [(1, 1), (50, 1), (99, 1), (51, 0), (3, 0), (4, 0), (103, 1), (52, 0), (100, 0), (2, 0), (5, 1), (101, 0), (102, 0), (57, 0), (107, 0)]
def sq_14_13 : tr_L := [(0, 5), (1, 4), (2, 6)]
def sq_15_12 : tr_L := [(0, 3), (1, 3), (2, 4)]
def sq_10_18 : tr_L := [(0, 4), (3, 2), (6, 4), (4, 3), (8, 2), (7, 3), (1, 2), (2, 1)]
def sq_12_15 : tr_L := [(0, 4), (49, 0), (98, 8), (1, 1), (50, 1), (99, 1), (51, 2), (3, 3), (4, -1), (103, 0), (52, 7), (100, 2), (2, 2), (5, 0), (101, 7), (102, -1), (57, -1), (107, 4), (106, 3)]
def sq_13_18 : tr_L := [(1, 1), (50, 1), (99, 1), (51, 0), (3, 0), (4, 0), (103, 1), (52, 0), (100, 0), (2, 0), (5, 1), (101, 0), (102, 0), (57, 0), (107, 0), (106, 0)]
def sq_14_14 : tr_L := [(0, 5), (1, 4), (2, 7)]
def sq_15_13 : tr_L := [(0, 3), (1, 3), (2, 5)]
def sq_10_19 : tr_L := [(0, 4), (3, 4), (6, 4), (4, 3), (8, 2), (7, 3), (1, 2), (2, 1), (5, 2)]
def sq_11_10 : tr_L := [(0, 3), (1, 4), (2, 4)]
def sq_12_16 : tr_L := [(0, 4), (49, 8), (98, 8), (1, 1), (50, 1), (99, 1), (51, 2), (3, 3), (4, -1), (103, 0), (52, 7), (100, 2), (2, 2), (5, 0), (101, 7), (102, -1), (57, 3), (107, 4), (106, 3), (53, -1), (54, 0), (58, 4)]
def sq_13_19 : tr_L := [(1, 1), (50, 1), (99, 1), (51, 0), (3, 0), (4, 0), (103, 1), (52, 0), (100, 0), (2, 0), (5, 1), (101, 0), (102, 0), (57, 0), (107, 0), (106, 0), (53, 0), (54, 1), (58, 0)]
def sq_14_15 : tr_L := [(0, 5), (1, 7), (2, 7)]
def sq_15_14 : tr_L := [(0, 3), (1, 5), (2, 5)]
def sq_10_20 : tr_L := [(0, 4), (3, 4), (6, 4), (4, 3), (8, 2), (7, 3), (1, 3), (2, 2), (5, 2)]
def sq_11_11 : tr_L := [(0, 4), (1, 4), (2, 4)]
def sq_12_17 : tr_L := [(0, 8), (49, 8), (98, 8), (1, 1), (50, 1), (99, 1), (51, 2), (3, 7), (4, -1), (103, 0), (52, 7), (100, 2), (2, 2), (5, 0), (101, 7), (102, -1), (57, 3), (107, 4), (106, 3), (53, -1), (54, 0), (58, 4), (8, 3), (9, 4)]
def sq_13_20 : tr_L := [(1, 1), (50, 1), (99, 1), (51, 0), (3, 0), (4, 0), (103, 1), (52, 0), (100, 0), (2, 0), (5, 1), (101, 0), (102, 0), (57, 0), (107, 0), (106, 0), (53, 0), (54, 1), (58, 0), (8, 0), (9, 0)]
def sq_14_16 : tr_L := [(0, 7), (1, 7), (2, 7)]
def sq_15_15 : tr_L := [(0, 5), (1, 5), (2, 5)]
def sq_7_2 : tr_L := [(5, 0), (6, 1)]
def sq_13_21 : tr_L := [(1, 1), (50, 1), (99, 1), (51, 0), (3, 0), (4, 0), (103, 0), (52, 0), (100, 0), (2, 1), (5, 0)]
def sq_13_22 : tr_L := [(1, 1), (50, 1), (99, 1), (51, 0), (3, 0), (4, 0), (103, 0), (52, 0), (100, 0), (2, 1), (5, 0), (101, 0)]
def sq_13_23 : tr_L := [(1, 1), (50, 1), (99, 1), (51, 0), (3, 0), (4, 0), (103, 0), (52, 0), (100, 0), (2, 1), (5, 0), (101, 0), (102, 0)]
def sq_13_24 : tr_L := [(1, 1), (50, 1), (99, 1), (51, 0), (3, 0), (4, 0), (103, 0), (52, 0), (100, 1), (2, 1), (5, 0), (101, 0), (102, 0)]
def sq_13_25 : tr_L := [(1, 1), (50, 1), (99, 1), (51, 0), (3, 0), (4, 0), (103, 0), (52, 0), (100, 1), (2, 1), (5, 0), (101, 0), (102, 0), (57, 0)]
def sq_13_26 : tr_L := [(1, 1), (50, 1), (99, 1), (51, 0), (3, 0), (4, 0), (103, 0), (52, 0), (100, 1), (2, 1), (5, 0), (101, 0), (102, 0), (57, 0), (107, 0)]
def sq_13_27 : tr_L := [(1, 1), (50, 1), (99, 1), (51, 0), (3, 0), (4, 0), (103, 0), (52, 0), (100, 1), (2, 1), (5, 0), (101, 0), (102, 0), (57, 0), (107, 0), (106, 0)]
def sq_13_28 : tr_L := [(1, 1), (50, 1), (99, 1), (51, 1), (3, 0), (4, 0), (103, 0), (52, 0), (100, 1), (2, 1), (5, 0), (101, 0), (102, 0), (57, 0), (107, 0), (106, 0), (53, 0), (54, 0), (58, 0)]
def sq_13_29 : tr_L := [(1, 1), (50, 1), (99, 1), (51, 1), (3, 0), (4, 0), (103, 0), (52, 0), (100, 1), (2, 1), (5, 0), (101, 0), (102, 0), (57, 0), (107, 0), (106, 0), (53, 0), (54, 0), (58, 0), (8, 0), (9, 0)]
def sq_7_3 : tr_L := [(5, 0), (6, 2)]
def sq_13_30 : tr_L := [(1, 1), (50, 1), (99, 1), (51, 0), (3, 1), (4, 0), (103, 0), (52, 0), (100, 0), (2, 0), (5, 0)]
def sq_13_31 : tr_L := [(1, 1), (50, 1), (99, 1), (51, 0), (3, 1), (4, 0), (103, 0), (52, 0), (100, 0), (2, 0), (5, 0), (101, 0)]
def sq_13_32 : tr_L := [(1, 1), (50, 1), (99, 1), (51, 0), (3, 1), (4, 0), (103, 0), (52, 0), (100, 0), (2, 0), (5, 0), (101, 0), (102, 0)]
def sq_13_33 : tr_L := [(1, 1), (50, 1), (99, 1), (51, 0), (3, 1), (4, 0), (103, 0), (52, 0), (100, 0), (2, 0), (5, 0), (101, 1), (102, 0)]
def sq_13_34 : tr_L := [(1, 1), (50, 1), (99, 1), (51, 0), (3, 1), (4, 0), (103, 0), (52, 0), (100, 0), (2, 0), (5, 0), (101, 1), (102, 0), (57, 0)]
def sq_13_35 : tr_L := [(1, 1), (50, 1), (99, 1), (51, 0), (3, 1), (4, 0), (103, 0), (52, 0), (100, 0), (2, 0), (5, 0), (101, 1), (102, 0), (57, 0), (107, 0)]
def sq_13_36 : tr_L := [(1, 1), (50, 1), (99, 1), (51, 0), (3, 1), (4, 0), (103, 0), (52, 0), (100, 0), (2, 0), (5, 0), (101, 1), (102, 0), (57, 0), (107, 0), (106, 0)]
def sq_13_37 : tr_L := [(1, 1), (50, 1), (99, 1), (51, 0), (3, 1), (4, 0), (103, 0), (52, 1), (100, 0), (2, 0), (5, 0), (101, 1), (102, 0), (57, 0), (107, 0), (106, 0), (53, 0), (54, 0), (58, 0)]
def sq_13_38 : tr_L := [(1, 1), (50, 1), (99, 1), (51, 0), (3, 1), (4, 0), (103, 0), (52, 1), (100, 0), (2, 0), (5, 0), (101, 1), (102, 0), (57, 0), (107, 0), (106, 0), (53, 0), (54, 0), (58, 0), (8, 0), (9, 0)]
def sq_7_4 : tr_L := [(5, 0), (6, 3)]
def sq_13_39 : tr_L := [(1, 1), (50, 1), (99, 1), (51, 0), (3, 0), (4, 1), (103, 0), (52, 0), (100, 0), (2, 0), (5, 0)]
def sq_13_40 : tr_L := [(1, 1), (50, 1), (99, 1), (51, 0), (3, 0), (4, 1), (103, 0), (52, 0), (100, 0), (2, 0), (5, 0), (101, 0)]
def sq_13_41 : tr_L := [(1, 1), (50, 1), (99, 1), (51, 0), (3, 0), (4, 1), (103, 0), (52, 0), (100, 0), (2, 0), (5, 0), (101, 0), (102, 0)]
def sq_13_42 : tr_L := [(1, 1), (50, 1), (99, 1), (51, 0), (3, 0), (4, 1), (103, 0), (52, 0), (100, 0), (2, 0), (5, 0), (101, 0), (102, 1)]
def sq_13_43 : tr_L := [(1, 1), (50, 1), (99, 1), (51, 0), (3, 0), (4, 1), (103, 0), (52, 0), (100, 0), (2, 0), (5, 0), (101, 0), (102, 1), (57, 0)]
def sq_13_44 : tr_L := [(1, 1), (50, 1), (99, 1), (51, 0), (3, 0), (4, 1), (103, 0), (52, 0), (100, 0), (2, 0), (5, 0), (101, 0), (102, 1), (57, 0), (107, 0)]
def sq_13_45 : tr_L := [(1, 1), (50, 1), (99, 1), (51, 0), (3, 0), (4, 1), (103, 0), (52, 0), (100, 0), (2, 0), (5, 0), (101, 0), (102, 1), (57, 0), (107, 0), (106, 0)]
def sq_13_46 : tr_L := [(1, 1), (50, 1), (99, 1), (51, 0), (3, 0), (4, 1), (103, 0), (52, 0), (100, 0), (2, 0), (5, 0), (101, 0), (102, 1), (57, 0), (107, 0), (106, 0), (53, 1), (54, 0), (58, 0)]
def sq_13_47 : tr_L := [(1, 1), (50, 1), (99, 1), (51, 0), (3, 0), (4, 1), (103, 0), (52, 0), (100, 0), (2, 0), (5, 0), (101, 0), (102, 1), (57, 0), (107, 0), (106, 0), (53, 1), (54, 0), (58, 0), (8, 0), (9, 0)]
def sq_10_21 : tr_L := [(0, 3), (3, 2), (6, 2), (4, 2), (8, 1), (7, 2), (1, 2), (2, 1)]
def sq_13_48 : tr_L := [(1, 1), (50, 1), (99, 1), (51, 0), (3, 0), (4, 0), (103, 0), (52, 0), (100, 0), (2, 0), (5, 0), (101, 0)]
def sq_15_16 : tr_L := [(0, 4), (1, 2), (2, 3)]
def sq_10_22 : tr_L := [(0, 3), (3, 2), (6, 3), (4, 2), (8, 1), (7, 2), (1, 2), (2, 1)]
def sq_13_49 : tr_L := [(1, 1), (50, 1), (99, 1), (51, 0), (3, 0), (4, 0), (103, 0), (52, 0), (100, 0), (2, 0), (5, 0), (101, 0), (102, 0)]
def sq_15_17 : tr_L := [(0, 4), (1, 2), (2, 4)]
def sq_1_9 : tr_L := [(0, 1), (1, 1), (2, 1), (3, 1), (4, 1), (5, 0), (6, 1)]
def sq_2_9 : tr_L := [(0, 0), (1, 1), (2, 0), (3, 0), (4, 2), (5, 1), (6, 1)]
def sq_3_9 : tr_L := [(0, 1), (1, 1), (2, 2), (3, 3), (4, 1), (5, 2), (6, 3)]
def sq_4_7 : tr_L := [(0, 1), (1, 2), (2, 3), (3, 4), (4, 4), (6, 1)]
def sq_5_7 : tr_L := [(0, -1), (1, 0), (2, 0), (3, 2), (4, -1), (6, 2)]
def sq_6_7 : tr_L := [(0, 1), (1, 2), (2, 2), (3, 3), (4, 2), (6, 3)]
def sq_8_9 : tr_L := [(0, 3), (1, 3), (2, 1)]
def sq_9_9 : tr_L := [(1, 0), (50, 1), (2, 2), (3, 3), (99, 4), (51, 5), (52, 6)]
def sq_10_23 : tr_L := [(0, 3), (3, 2), (6, 3), (4, 3), (8, 1), (7, 2), (1, 2), (2, 1)]
def sq_12_18 : tr_L := [(0, 4), (49, 0), (98, 4), (1, 1), (50, 1), (99, 1), (51, 2), (3, 3), (4, -1), (103, 0), (52, 6), (100, 2), (2, 2), (5, 0), (101, 3), (102, -1), (56, -1)]
def sq_13_50 : tr_L := [(1, 1), (50, 1), (99, 1), (51, 0), (3, 0), (4, 0), (103, 0), (52, 0), (100, 0), (2, 0), (5, 0), (101, 0), (102, 0), (56, 0)]
def sq_15_18 : tr_L := [(0, 4), (1, 3), (2, 4)]
def sq_1_10 : tr_L := [(0, 1), (1, 1), (2, 1), (3, 1), (4, 1), (5, 0), (6, 1), (7, 1)]
def sq_2_10 : tr_L := [(0, 0), (1, 1), (2, 0), (3, 0), (4, 2), (5, 1), (6, 1), (7, 2)]
def sq_3_10 : tr_L := [(0, 1), (1, 1), (2, 2), (3, 3), (4, 1), (5, 2), (6, 3), (7, 2)]
def sq_4_8 : tr_L := [(0, 1), (1, 2), (2, 3), (3, 4), (4, 4), (6, 1), (7, 3)]
def sq_5_8 : tr_L := [(0, -1), (1, 0), (2, 0), (3, 2), (4, -1), (6, 2), (7, -1)]
def sq_6_8 : tr_L := [(0, 1), (1, 2), (2, 2), (3, 3), (4, 2), (6, 3), (7, 4)]
def sq_8_10 : tr_L := [(0, 3), (1, 3), (2, 2)]
def sq_9_10 : tr_L := [(1, 0), (50, 1), (2, 2), (3, 3), (99, 4), (51, 5), (52, 6), (100, 7)]
def sq_10_24 : tr_L := [(0, 3), (3, 2), (6, 3), (4, 3), (8, 2), (7, 2), (1, 2), (2, 1)]
def sq_12_19 : tr_L := [(0, 4), (49, 0), (98, 7), (1, 1), (50, 1), (99, 1), (51, 2), (3, 3), (4, -1), (103, 0), (52, 6), (100, 2), (2, 2), (5, 0), (101, 3), (102, -1), (56, -1), (106, 4)]
def sq_13_51 : tr_L := [(1, 1), (50, 1), (99, 1), (51, 0), (3, 0), (4, 0), (103, 0), (52, 0), (100, 0), (2, 0), (5, 0), (101, 0), (102, 0), (56, 0), (106, 0)]
def sq_15_19 : tr_L := [(0, 4), (1, 3), (2, 5)]
def sq_10_25 : tr_L := [(0, 3), (3, 2), (6, 3), (4, 3), (8, 2), (7, 3), (1, 2), (2, 1)]
def sq_12_20 : tr_L := [(0, 4), (49, 0), (98, 7), (1, 1), (50, 1), (99, 1), (51, 2), (3, 3), (4, -1), (103, 0), (52, 6), (100, 2), (2, 2), (5, 0), (101, 6), (102, -1), (56, -1), (106, 4), (105, 3)]
def sq_13_52 : tr_L := [(1, 1), (50, 1), (99, 1), (51, 0), (3, 0), (4, 0), (103, 0), (52, 0), (100, 0), (2, 0), (5, 0), (101, 0), (102, 0), (56, 0), (106, 0), (105, 0)]
def sq_15_20 : tr_L := [(0, 4), (1, 3), (2, 6)]
def sq_10_26 : tr_L := [(0, 3), (3, 3), (6, 3), (4, 3), (8, 2), (7, 3), (1, 2), (2, 1), (5, 2)]
def sq_12_21 : tr_L := [(0, 4), (49, 7), (98, 7), (1, 1), (50, 1), (99, 1), (51, 2), (3, 3), (4, -1), (103, 0), (52, 6), (100, 2), (2, 2), (5, 0), (101, 6), (102, -1), (56, 3), (106, 4), (105, 3), (53, -1), (54, 0), (57, 4)]
def sq_13_53 : tr_L := [(1, 1), (50, 1), (99, 1), (51, 0), (3, 0), (4, 0), (103, 0), (52, 0), (100, 0), (2, 0), (5, 0), (101, 0), (102, 0), (56, 0), (106, 0), (105, 0), (53, 0), (54, 0), (57, 0)]
def sq_15_21 : tr_L := [(0, 4), (1, 6), (2, 6)]
def sq_10_27 : tr_L := [(0, 3), (3, 3), (6, 3), (4, 3), (8, 2), (7, 3), (1, 3), (2, 2), (5, 2)]
def sq_12_22 : tr_L := [(0, 7), (49, 7), (98, 7), (1, 1), (50, 1), (99, 1), (51, 2), (3, 6), (4, -1), (103, 0), (52, 6), (100, 2), (2, 2), (5, 0), (101, 6), (102, -1), (56, 3), (106, 4), (105, 3), (53, -1), (54, 0), (57, 4), (7, 3), (8, 4)]
def sq_13_54 : tr_L := [(1, 1), (50, 1), (99, 1), (51, 0), (3, 0), (4, 0), (103, 0), (52, 0), (100, 0), (2, 0), (5, 0), (101, 0), (102, 0), (56, 0), (106, 0), (105, 0), (53, 0), (54, 0), (57, 0), (7, 0), (8, 0)]
def sq_15_22 : tr_L := [(0, 6), (1, 6), (2, 6)]
end
section
theorem sp_0_v : tr_ck (tr_ii (0, [], [], [], [], [], [], [], [], [], [], [], sq_12_0, [], [], []) 0 0 1) 1 (1, sq_1_0, sq_2_0, sq_3_0, sq_4_0, sq_5_0, sq_6_0, [], sq_8_0, sq_9_0, sq_10_0, sq_11_0, sq_12_1, sq_13_0, sq_14_0, sq_15_0) = true := by decide +kernel
theorem sp_0 {e : Int32 → Int32} {post : Int32 → St2 → Prop} (H : post 1 (1, tr_g sq_1_0, tr_g sq_2_0, tr_g sq_3_0, tr_h e sq_4_0, tr_g sq_5_0, tr_g sq_6_0, tr_g [], tr_g sq_8_0, tr_g sq_9_0, tr_g sq_10_0, tr_g sq_11_0, tr_g sq_12_1, tr_g sq_13_0, tr_g sq_14_0, tr_g sq_15_0)) : wpX_insert post (0, tr_g [], tr_g [], tr_g [], tr_h e [], tr_g [], tr_g [], tr_g [], tr_g [], tr_g [], tr_g [], tr_g [], tr_g sq_12_0, tr_g [], tr_g [], tr_g []) 0 0 (e 1) := tr_ii_ok ⟨(1, (1, sq_1_0, sq_2_0, sq_3_0, sq_4_0, sq_5_0, sq_6_0, [], sq_8_0, sq_9_0, sq_10_0, sq_11_0, sq_12_1, sq_13_0, sq_14_0, sq_15_0)), tr_ck_ok sp_0_v, H⟩
theorem sp_1_v : tr_ck (tr_de (1, sq_1_0, sq_2_0, sq_3_0, sq_4_0, sq_5_0, sq_6_0, [], sq_8_0, sq_9_0, sq_10_0, sq_11_0, sq_12_1, sq_13_0, sq_14_0, sq_15_0) 0 1) 0 (1, sq_1_0, sq_2_0, sq_3_0, sq_4_0, sq_5_0, sq_6_0, [], sq_8_0, sq_9_0, sq_10_1, sq_11_1, sq_12_2, sq_13_1, sq_14_1, sq_15_1) = true := by decide +kernel
theorem sp_1 {e : Int32 → Int32} {post : Int32 → St2 → Prop} (H : post 0 (1, tr_g sq_1_0, tr_g sq_2_0, tr_g sq_3_0, tr_h e sq_4_0, tr_g sq_5_0, tr_g sq_6_0, tr_g [], tr_g sq_8_0, tr_g sq_9_0, tr_g sq_10_1, tr_g sq_11_1, tr_g sq_12_2, tr_g sq_13_1, tr_g sq_14_1, tr_g sq_15_1)) : wpX_deliver post (1, tr_g sq_1_0, tr_g sq_2_0, tr_g sq_3_0, tr_h e sq_4_0, tr_g sq_5_0, tr_g sq_6_0, tr_g [], tr_g sq_8_0, tr_g sq_9_0, tr_g sq_10_0, tr_g sq_11_0, tr_g sq_12_1, tr_g sq_13_0, tr_g sq_14_0, tr_g sq_15_0) 0 1 := tr_de_ok ⟨(0, (1, sq_1_0, sq_2_0, sq_3_0, sq_4_0, sq_5_0, sq_6_0, [], sq_8_0, sq_9_0, sq_10_1, sq_11_1, sq_12_2, sq_13_1, sq_14_1, sq_15_1)), tr_ck_ok sp_1_v, H⟩
theorem sp_2_v : tr_ck (tr_de (1, sq_1_0, sq_2_0, sq_3_0, sq_4_0, sq_5_0, sq_6_0, [], sq_8_0, sq_9_0, sq_10_1, sq_11_1, sq_12_2, sq_13_1, sq_14_1, sq_15_1) 0 2) 0 (1, sq_1_0, sq_2_0, sq_3_0, sq_4_0, sq_5_0, sq_6_0, [], sq_8_0, sq_9_0, sq_10_2, sq_11_2, sq_12_3, sq_13_2, sq_14_2, sq_15_2) = true := by decide +kernel
theorem sp_2 {e : Int32 → Int32} {post : Int32 → St2 → Prop} (H : post 0 (1, tr_g sq_1_0, tr_g sq_2_0, tr_g sq_3_0, tr_h e sq_4_0, tr_g sq_5_0, tr_g sq_6_0, tr_g [], tr_g sq_8_0, tr_g sq_9_0, tr_g sq_10_2, tr_g sq_11_2, tr_g sq_12_3, tr_g sq_13_2, tr_g sq_14_2, tr_g sq_15_2)) : wpX_deliver post (1, tr_g sq_1_0, tr_g sq_2_0, tr_g sq_3_0, tr_h e sq_4_0, tr_g sq_5_0, tr_g sq_6_0, tr_g [], tr_g sq_8_0, tr_g sq_9_0, tr_g sq_10_1, tr_g sq_11_1, tr_g sq_12_2, tr_g sq_13_1, tr_g sq_14_1, tr_g sq_15_1) 0 2 := tr_de_ok ⟨(0, (1, sq_1_0, sq_2_0, sq_3_0, sq_4_0, sq_5_0, sq_6_0, [], sq_8_0, sq_9_0, sq_10_2, sq_11_2, sq_12_3, sq_13_2, sq_14_2, sq_15_2)), tr_ck_ok sp_2_v, H⟩
theorem sp_3_v : tr_ck (tr_de (1, sq_1_0, sq_2_0, sq_3_0, sq_4_0, sq_5_0, sq_6_0, [], sq_8_0, sq_9_0, sq_10_2, sq_11_2, sq_12_3, sq_13_2, sq_14_2, sq_15_2) 0 1) (-1) (1, sq_1_0, sq_2_0, sq_3_0, sq_4_0, sq_5_0, sq_6_0, [], sq_8_0, sq_9_0, sq_10_2, sq_11_2, sq_12_3, sq_13_2, sq_14_2, sq_15_2) = true := by decide +kernel
theorem sp_3 {e : Int32 → Int32} {post : Int32 → St2 → Prop} (H : post (-1) (1, tr_g sq_1_0, tr_g sq_2_0, tr_g sq_3_0, tr_h e sq_4_0, tr_g sq_5_0, tr_g sq_6_0, tr_g [], tr_g sq_8_0, tr_g sq_9_0, tr_g sq_10_2, tr_g sq_11_2, tr_g sq_12_3, tr_g sq_13_2, tr_g sq_14_2, tr_g sq_15_2)) : wpX_deliver post (1, tr_g sq_1_0, tr_g sq_2_0, tr_g sq_3_0, tr_h e sq_4_0, tr_g sq_5_0, tr_g sq_6_0, tr_g [], tr_g sq_8_0, tr_g sq_9_0, tr_g sq_10_2, tr_g sq_11_2, tr_g sq_12_3, tr_g sq_13_2, tr_g sq_14_2, tr_g sq_15_2) 0 1 := tr_de_ok ⟨((-1), (1, sq_1_0, sq_2_0, sq_3_0, sq_4_0, sq_5_0, sq_6_0, [], sq_8_0, sq_9_0, sq_10_2, sq_11_2, sq_12_3, sq_13_2, sq_14_2, sq_15_2)), tr_ck_ok sp_3_v, H⟩
theorem sp_4_v : tr_ck (tr_ii (1, sq_1_0, sq_2_0, sq_3_0, sq_4_0, sq_5_0, sq_6_0, [], sq_8_0, sq_9_0, sq_10_2, sq_11_2, sq_12_3, sq_13_2, sq_14_2, sq_15_2) 1 1 2) 2 (2, sq_1_1, sq_2_1, sq_3_1, sq_4_1, sq_5_1, sq_6_1, [], sq_8_1, sq_9_1, sq_10_3, sq_11_3, sq_12_4, sq_13_3, sq_14_3, sq_15_3) = true := by decide +kernel
theorem sp_4 {e : Int32 → Int32} {post : Int32 → St2 → Prop} (H : post 2 (2, tr_g sq_1_1, tr_g sq_2_1, tr_g sq_3_1, tr_h e sq_4_1, tr_g sq_5_1, tr_g sq_6_1, tr_g [], tr_g sq_8_1, tr_g sq_9_1, tr_g sq_10_3, tr_g sq_11_3, tr_g sq_12_4, tr_g sq_13_3, tr_g sq_14_3, tr_g sq_15_3)) : wpX_insert post (1, tr_g sq_1_0, tr_g sq_2_0, tr_g sq_3_0, tr_h e sq_4_0, tr_g sq_5_0, tr_g sq_6_0, tr_g [], tr_g sq_8_0, tr_g sq_9_0, tr_g sq_10_2, tr_g sq_11_2, tr_g sq_12_3, tr_g sq_13_2, tr_g sq_14_2, tr_g sq_15_2) 1 1 (e 2) := tr_ii_ok ⟨(2, (2, sq_1_1, sq_2_1, sq_3_1, sq_4_1, sq_5_1, sq_6_1, [], sq_8_1, sq_9_1, sq_10_3, sq_11_3, sq_12_4, sq_13_3, sq_14_3, sq_15_3)), tr_ck_ok sp_4_v, H⟩
theorem sp_5_v : tr_ck (tr_ii (2, sq_1_1, sq_2_1, sq_3_1, sq_4_1, sq_5_1, sq_6_1, [], sq_8_1, sq_9_1, sq_10_3, sq_11_3, sq_12_4, sq_13_3, sq_14_3, sq_15_3) 0 1 3) 2 (3, sq_1_2, sq_2_2, sq_3_2, sq_4_2, sq_5_2, sq_6_2, [], sq_8_2, sq_9_2, sq_10_4, sq_11_4, sq_12_5, sq_13_4, sq_14_4, sq_15_4) = true := by decide +kernel
theorem sp_5 {e : Int32 → Int32} {post : Int32 → St2 → Prop} (H : post 2 (3, tr_g sq_1_2, tr_g sq_2_2, tr_g sq_3_2, tr_h e sq_4_2, tr_g sq_5_2, tr_g sq_6_2, tr_g [], tr_g sq_8_2, tr_g sq_9_2, tr_g sq_10_4, tr_g sq_11_4, tr_g sq_12_5, tr_g sq_13_4, tr_g sq_14_4, tr_g sq_15_4)) : wpX_insert post (2, tr_g sq_1_1, tr_g sq_2_1, tr_g sq_3_1, tr_h e sq_4_1, tr_g sq_5_1, tr_g sq_6_1, tr_g [], tr_g sq_8_1, tr_g sq_9_1, tr_g sq_10_3, tr_g sq_11_3, tr_g sq_12_4, tr_g sq_13_3, tr_g sq_14_3, tr_g sq_15_3) 0 1 (e 3) := tr_ii_ok ⟨(2, (3, sq_1_2, sq_2_2, sq_3_2, sq_4_2, sq_5_2, sq_6_2, [], sq_8_2, sq_9_2, sq_10_4, sq_11_4, sq_12_5, sq_13_4, sq_14_4, sq_15_4)), tr_ck_ok sp_5_v, H⟩
theorem sp_6_v : tr_ck (tr_ii (3, sq_1_2, sq_2_2, sq_3_2, sq_4_2, sq_5_2, sq_6_2, [], sq_8_2, sq_9_2, sq_10_4, sq_11_4, sq_12_5, sq_13_4, sq_14_4, sq_15_4) 0 2 4) 3 (4, sq_1_3, sq_2_3, sq_3_3, sq_4_3, sq_5_3, sq_6_3, [], sq_8_3, sq_9_3, sq_10_5, sq_11_5, sq_12_6, sq_13_5, sq_14_5, sq_15_5) = true := by decide +kernel
theorem sp_6 {e : Int32 → Int32} {post : Int32 → St2 → Prop} (H : post 3 (4, tr_g sq_1_3, tr_g sq_2_3, tr_g sq_3_3, tr_h e sq_4_3, tr_g sq_5_3, tr_g sq_6_3, tr_g [], tr_g sq_8_3, tr_g sq_9_3, tr_g sq_10_5, tr_g sq_11_5, tr_g sq_12_6, tr_g sq_13_5, tr_g sq_14_5, tr_g sq_15_5)) : wpX_insert post (3, tr_g sq_1_2, tr_g sq_2_2, tr_g sq_3_2, tr_h e sq_4_2, tr_g sq_5_2, tr_g sq_6_2, tr_g [], tr_g sq_8_2, tr_g sq_9_2, tr_g sq_10_4, tr_g sq_11_4, tr_g sq_12_5, tr_g sq_13_4, tr_g sq_14_4, tr_g sq_15_4) 0 2 (e 4) := tr_ii_ok ⟨(3, (4, sq_1_3, sq_2_3, sq_3_3, sq_4_3, sq_5_3, sq_6_3, [], sq_8_3, sq_9_3, sq_10_5, sq_11_5, sq_12_6, sq_13_5, sq_14_5, sq_15_5)), tr_ck_ok sp_6_v, H⟩
theorem sp_7_v : tr_ck (tr_ii (4, sq_1_3, sq_2_3, sq_3_3, sq_4_3, sq_5_3, sq_6_3, [], sq_8_3, sq_9_3, sq_10_5, sq_11_5, sq_12_6, sq_13_5, sq_14_5, sq_15_5) 2 0 4) 2 (5, sq_1_4, sq_2_4, sq_3_4, sq_4_4, sq_5_4, sq_6_4, [], sq_8_4, sq_9_4, sq_10_6, sq_11_6, sq_12_7, sq_13_6, sq_14_6, sq_15_6) = true := by decide +kernel
theorem sp_7 {e : Int32 → Int32} {post : Int32 → St2 → Prop} (H : post 2 (5, tr_g sq_1_4, tr_g sq_2_4, tr_g sq_3_4, tr_h e sq_4_4, tr_g sq_5_4, tr_g sq_6_4, tr_g [], tr_g sq_8_4, tr_g sq_9_4, tr_g sq_10_6, tr_g sq_11_6, tr_g sq_12_7, tr_g sq_13_6, tr_g sq_14_6, tr_g sq_15_6)) : wpX_insert post (4, tr_g sq_1_3, tr_g sq_2_3, tr_g sq_3_3, tr_h e sq_4_3, tr_g sq_5_3, tr_g sq_6_3, tr_g [], tr_g sq_8_3, tr_g sq_9_3, tr_g sq_10_5, tr_g sq_11_5, tr_g sq_12_6, tr_g sq_13_5, tr_g sq_14_5, tr_g sq_15_5) 2 0 (e 4) := tr_ii_ok ⟨(2, (5, sq_1_4, sq_2_4, sq_3_4, sq_4_4, sq_5_4, sq_6_4, [], sq_8_4, sq_9_4, sq_10_6, sq_11_6, sq_12_7, sq_13_6, sq_14_6, sq_15_6)), tr_ck_ok sp_7_v, H⟩
theorem sp_8_v : tr_lt sq_4_4 sq_12_7 sq_13_6 sq_15_6 0 1 = some 3 := by decide +kernel
theorem sp_8 {e : Int32 → Int32} {post : Int32 → Prop} (H : post (e 3)) : wpX_letter post (5, tr_g sq_1_4, tr_g sq_2_4, tr_g sq_3_4, tr_h e sq_4_4, tr_g sq_5_4, tr_g sq_6_4, tr_g [], tr_g sq_8_4, tr_g sq_9_4, tr_g sq_10_6, tr_g sq_11_6, tr_g sq_12_7, tr_g sq_13_6, tr_g sq_14_6, tr_g sq_15_6) 0 1 := tr_lt_ok ⟨3, sp_8_v, H⟩
theorem sp_9_v : tr_lt sq_4_4 sq_12_7 sq_13_6 sq_15_6 0 2 = some 4 := by decide +kernel
theorem sp_9 {e : Int32 → Int32} {post : Int32 → Prop} (H : post (e 4)) : wpX_letter post (5, tr_g sq_1_4, tr_g sq_2_4, tr_g sq_3_4, tr_h e sq_4_4, tr_g sq_5_4, tr_g sq_6_4, tr_g [], tr_g sq_8_4, tr_g sq_9_4, tr_g sq_10_6, tr_g sq_11_6, tr_g sq_12_7, tr_g sq_13_6, tr_g sq_14_6, tr_g sq_15_6) 0 2 := tr_lt_ok ⟨4, sp_9_v, H⟩
theorem sp_10_v : tr_lt sq_4_4 sq_12_7 sq_13_6 sq_15_6 2 0 = some 4 := by decide +kernel
theorem sp_10 {e : Int32 → Int32} {post : Int32 → Prop} (H : post (e 4)) : wpX_letter post (5, tr_g sq_1_4, tr_g sq_2_4, tr_g sq_3_4, tr_h e sq_4_4, tr_g sq_5_4, tr_g sq_6_4, tr_g [], tr_g sq_8_4, tr_g sq_9_4, tr_g sq_10_6, tr_g sq_11_6, tr_g sq_12_7, tr_g sq_13_6, tr_g sq_14_6, tr_g sq_15_6) 2 0 := tr_lt_ok ⟨4, sp_10_v, H⟩
theorem sp_11_v : tr_lt sq_4_4 sq_12_7 sq_13_6 sq_15_6 2 1 = some 1 := by decide +kernel
theorem sp_11 {e : Int32 → Int32} {post : Int32 → Prop} (H : post (e 1)) : wpX_letter post (5, tr_g sq_1_4, tr_g sq_2_4, tr_g sq_3_4, tr_h e sq_4_4, tr_g sq_5_4, tr_g sq_6_4, tr_g [], tr_g sq_8_4, tr_g sq_9_4, tr_g sq_10_6, tr_g sq_11_6, tr_g sq_12_7, tr_g sq_13_6, tr_g sq_14_6, tr_g sq_15_6) 2 1 := tr_lt_ok ⟨1, sp_11_v, H⟩
theorem sp_12_v : tr_ck (tr_de (5, sq_1_4, sq_2_4, sq_3_4, sq_4_4, sq_5_4, sq_6_4, [], sq_8_4, sq_9_4, sq_10_6, sq_11_6, sq_12_7, sq_13_6, sq_14_6, sq_15_6) 0 1) 0 (5, sq_1_4, sq_2_4, sq_3_4, sq_4_4, sq_5_4, sq_6_4, [], sq_8_4, sq_9_4, sq_10_7, sq_11_6, sq_12_8, sq_13_7, sq_14_7, sq_15_7) = true := by decide +kernel
theorem sp_12 {e : Int32 → Int32} {post : Int32 → St2 → Prop} (H : post 0 (5, tr_g sq_1_4, tr_g sq_2_4, tr_g sq_3_4, tr_h e sq_4_4, tr_g sq_5_4, tr_g sq_6_4, tr_g [], tr_g sq_8_4, tr_g sq_9_4, tr_g sq_10_7, tr_g sq_11_6, tr_g sq_12_8, tr_g sq_13_7, tr_g sq_14_7, tr_g sq_15_7)) : wpX_deliver post (5, tr_g sq_1_4, tr_g sq_2_4, tr_g sq_3_4, tr_h e sq_4_4, tr_g sq_5_4, tr_g sq_6_4, tr_g [], tr_g sq_8_4, tr_g sq_9_4, tr_g sq_10_6, tr_g sq_11_6, tr_g sq_12_7, tr_g sq_13_6, tr_g sq_14_6, tr_g sq_15_6) 0 1 := tr_de_ok ⟨(0, (5, sq_1_4, sq_2_4, sq_3_4, sq_4_4, sq_5_4, sq_6_4, [], sq_8_4, sq_9_4, sq_10_7, sq_11_6, sq_12_8, sq_13_7, sq_14_7, sq_15_7)), tr_ck_ok sp_12_v, H⟩
theorem sp_13_v : tr_lt sq_4_4 sq_12_8 sq_13_7 sq_15_7 1 1 = some 2 := by decide +kernel
theorem sp_13 {e : Int32 → Int32} {post : Int32 → Prop} (H : post (e 2)) : wpX_letter post (5, tr_g sq_1_4, tr_g sq_2_4, tr_g sq_3_4, tr_h e sq_4_4, tr_g sq_5_4, tr_g sq_6_4, tr_g [], tr_g sq_8_4, tr_g sq_9_4, tr_g sq_10_7, tr_g sq_11_6, tr_g sq_12_8, tr_g sq_13_7, tr_g sq_14_7, tr_g sq_15_7) 1 1 := tr_lt_ok ⟨2, sp_13_v, H⟩
theorem sp_14_v : tr_lt sq_4_4 sq_12_8 sq_13_7 sq_15_7 1 2 = some 3 := by decide +kernel
theorem sp_14 {e : Int32 → Int32} {post : Int32 → Prop} (H : post (e 3)) : wpX_letter post (5, tr_g sq_1_4, tr_g sq_2_4, tr_g sq_3_4, tr_h e sq_4_4, tr_g sq_5_4, tr_g sq_6_4, tr_g [], tr_g sq_8_4, tr_g sq_9_4, tr_g sq_10_7, tr_g sq_11_6, tr_g sq_12_8, tr_g sq_13_7, tr_g sq_14_7, tr_g sq_15_7) 1 2 := tr_lt_ok ⟨3, sp_14_v, H⟩
theorem sp_15_v : tr_ro sq_14_7 1 = some 3 := by decide +kernel
theorem sp_15 {e : Int32 → Int32} {post : Int32 → Prop} (H : post 3) : wpX_row post (5, tr_g sq_1_4, tr_g sq_2_4, tr_g sq_3_4, tr_h e sq_4_4, tr_g sq_5_4, tr_g sq_6_4, tr_g [], tr_g sq_8_4, tr_g sq_9_4, tr_g sq_10_7, tr_g sq_11_6, tr_g sq_12_8, tr_g sq_13_7, tr_g sq_14_7, tr_g sq_15_7) 1 := tr_ro_ok ⟨3, sp_15_v, H⟩
theorem sp_16_v : tr_ck (tr_dl (5, sq_1_4, sq_2_4, sq_3_4, sq_4_4, sq_5_4, sq_6_4, [], sq_8_4, sq_9_4, sq_10_7, sq_11_6, sq_12_8, sq_13_7, sq_14_7, sq_15_7) 1 0) 2 (6, sq_1_5, sq_2_5, sq_3_5, sq_4_4, sq_5_4, sq_6_4, sq_7_0, sq_8_5, sq_9_5, sq_10_8, sq_11_6, sq_12_8, sq_13_8, sq_14_7, sq_15_6) = true := by decide +kernel
theorem sp_16 {e : Int32 → Int32} {post : Int32 → St2 → Prop} (H : post 2 (6, tr_g sq_1_5, tr_g sq_2_5, tr_g sq_3_5, tr_h e sq_4_4, tr_g sq_5_4, tr_g sq_6_4, tr_g sq_7_0, tr_g sq_8_5, tr_g sq_9_5, tr_g sq_10_8, tr_g sq_11_6, tr_g sq_12_8, tr_g sq_13_8, tr_g sq_14_7, tr_g sq_15_6)) : wpX_delete post (5, tr_g sq_1_4, tr_g sq_2_4, tr_g sq_3_4, tr_h e sq_4_4, tr_g sq_5_4, tr_g sq_6_4, tr_g [], tr_g sq_8_4, tr_g sq_9_4, tr_g sq_10_7, tr_g sq_11_6, tr_g sq_12_8, tr_g sq_13_7, tr_g sq_14_7, tr_g sq_15_7) 1 0 := tr_dl_ok ⟨(2, (6, sq_1_5, sq_2_5, sq_3_5, sq_4_4, sq_5_4, sq_6_4, sq_7_0, sq_8_5, sq_9_5, sq_10_8, sq_11_6, sq_12_8, sq_13_8, sq_14_7, sq_15_6)), tr_ck_ok sp_16_v, H⟩
theorem sp_17_v : tr_lt sq_4_4 sq_12_8 sq_13_8 sq_15_6 1 0 = some 2 := by decide +kernel
theorem sp_17 {e : Int32 → Int32} {post : Int32 → Prop} (H : post (e 2)) : wpX_letter post (6, tr_g sq_1_5, tr_g sq_2_5, tr_g sq_3_5, tr_h e sq_4_4, tr_g sq_5_4, tr_g sq_6_4, tr_g sq_7_0, tr_g sq_8_5, tr_g sq_9_5, tr_g sq_10_8, tr_g sq_11_6, tr_g sq_12_8, tr_g sq_13_8, tr_g sq_14_7, tr_g sq_15_6) 1 0 := tr_lt_ok ⟨2, sp_17_v, H⟩
theorem sp_18_v : tr_ro sq_14_7 1 = some 3 := by decide +kernel
theorem sp_18 {e : Int32 → Int32} {post : Int32 → Prop} (H : post 3) : wpX_row post (6, tr_g sq_1_5, tr_g sq_2_5, tr_g sq_3_5, tr_h e sq_4_4, tr_g sq_5_4, tr_g sq_6_4, tr_g sq_7_0, tr_g sq_8_5, tr_g sq_9_5, tr_g sq_10_8, tr_g sq_11_6, tr_g sq_12_8, tr_g sq_13_8, tr_g sq_14_7, tr_g sq_15_6) 1 := tr_ro_ok ⟨3, sp_18_v, H⟩
theorem sp_19_v : tr_ko sq_10_8 1 1 = some 2 := by decide +kernel
theorem sp_19 {e : Int32 → Int32} {post : Int32 → Prop} (H : post 2) : wpX_known post (6, tr_g sq_1_5, tr_g sq_2_5, tr_g sq_3_5, tr_h e sq_4_4, tr_g sq_5_4, tr_g sq_6_4, tr_g sq_7_0, tr_g sq_8_5, tr_g sq_9_5, tr_g sq_10_8, tr_g sq_11_6, tr_g sq_12_8, tr_g sq_13_8, tr_g sq_14_7, tr_g sq_15_6) 1 1 := tr_ko_ok ⟨2, sp_19_v, H⟩
theorem sp_20_v : tr_ck (tr_de (6, sq_1_5, sq_2_5, sq_3_5, sq_4_4, sq_5_4, sq_6_4, sq_7_0, sq_8_5, sq_9_5, sq_10_8, sq_11_6, sq_12_8, sq_13_8, sq_14_7, sq_15_6) 1 2) 0 (6, sq_1_5, sq_2_5, sq_3_5, sq_4_4, sq_5_4, sq_6_4, sq_7_0, sq_8_5, sq_9_5, sq_10_9, sq_11_6, sq_12_9, sq_13_9, sq_14_8, sq_15_8) = true := by decide +kernel
theorem sp_20 {e : Int32 → Int32} {post : Int32 → St2 → Prop} (H : post 0 (6, tr_g sq_1_5, tr_g sq_2_5, tr_g sq_3_5, tr_h e sq_4_4, tr_g sq_5_4, tr_g sq_6_4, tr_g sq_7_0, tr_g sq_8_5, tr_g sq_9_5, tr_g sq_10_9, tr_g sq_11_6, tr_g sq_12_9, tr_g sq_13_9, tr_g sq_14_8, tr_g sq_15_8)) : wpX_deliver post (6, tr_g sq_1_5, tr_g sq_2_5, tr_g sq_3_5, tr_h e sq_4_4, tr_g sq_5_4, tr_g sq_6_4, tr_g sq_7_0, tr_g sq_8_5, tr_g sq_9_5, tr_g sq_10_8, tr_g sq_11_6, tr_g sq_12_8, tr_g sq_13_8, tr_g sq_14_7, tr_g sq_15_6) 1 2 := tr_de_ok ⟨(0, (6, sq_1_5, sq_2_5, sq_3_5, sq_4_4, sq_5_4, sq_6_4, sq_7_0, sq_8_5, sq_9_5, sq_10_9, sq_11_6, sq_12_9, sq_13_9, sq_14_8, sq_15_8)), tr_ck_ok sp_20_v, H⟩
theorem sp_21_v : tr_lt sq_4_4 sq_12_9 sq_13_9 sq_15_8 2 2 = some 2 := by decide +kernel
theorem sp_21 {e : Int32 → Int32} {post : Int32 → Prop} (H : post (e 2)) : wpX_letter post (6, tr_g sq_1_5, tr_g sq_2_5, tr_g sq_3_5, tr_h e sq_4_4, tr_g sq_5_4, tr_g sq_6_4, tr_g sq_7_0, tr_g sq_8_5, tr_g sq_9_5, tr_g sq_10_9, tr_g sq_11_6, tr_g sq_12_9, tr_g sq_13_9, tr_g sq_14_8, tr_g sq_15_8) 2 2 := tr_lt_ok ⟨2, sp_21_v, H⟩
theorem sp_22_v : tr_ck (tr_de (6, sq_1_5, sq_2_5, sq_3_5, sq_4_4, sq_5_4, sq_6_4, sq_7_0, sq_8_5, sq_9_5, sq_10_9, sq_11_6, sq_12_9, sq_13_9, sq_14_8, sq_15_8) 1 2) 0 (6, sq_1_5, sq_2_5, sq_3_5, sq_4_4, sq_5_4, sq_6_4, sq_7_0, sq_8_5, sq_9_5, sq_10_10, sq_11_6, sq_12_9, sq_13_10, sq_14_8, sq_15_6) = true := by decide +kernel
theorem sp_22 {e : Int32 → Int32} {post : Int32 → St2 → Prop} (H : post 0 (6, tr_g sq_1_5, tr_g sq_2_5, tr_g sq_3_5, tr_h e sq_4_4, tr_g sq_5_4, tr_g sq_6_4, tr_g sq_7_0, tr_g sq_8_5, tr_g sq_9_5, tr_g sq_10_10, tr_g sq_11_6, tr_g sq_12_9, tr_g sq_13_10, tr_g sq_14_8, tr_g sq_15_6)) : wpX_deliver post (6, tr_g sq_1_5, tr_g sq_2_5, tr_g sq_3_5, tr_h e sq_4_4, tr_g sq_5_4, tr_g sq_6_4, tr_g sq_7_0, tr_g sq_8_5, tr_g sq_9_5, tr_g sq_10_9, tr_g sq_11_6, tr_g sq_12_9, tr_g sq_13_9, tr_g sq_14_8, tr_g sq_15_8) 1 2 := tr_de_ok ⟨(0, (6, sq_1_5, sq_2_5, sq_3_5, sq_4_4, sq_5_4, sq_6_4, sq_7_0, sq_8_5, sq_9_5, sq_10_10, sq_11_6, sq_12_9, sq_13_10, sq_14_8, sq_15_6)), tr_ck_ok sp_22_v, H⟩
theorem sp_23_v : tr_lt sq_4_4 sq_12_9 sq_13_10 sq_15_6 2 0 = some 4 := by decide +kernel
theorem sp_23 {e : Int32 → Int32} {post : Int32 → Prop} (H : post (e 4)) : wpX_letter post (6, tr_g sq_1_5, tr_g sq_2_5, tr_g sq_3_5, tr_h e sq_4_4, tr_g sq_5_4, tr_g sq_6_4, tr_g sq_7_0, tr_g sq_8_5, tr_g sq_9_5, tr_g sq_10_10, tr_g sq_11_6, tr_g sq_12_9, tr_g sq_13_10, tr_g sq_14_8, tr_g sq_15_6) 2 0 := tr_lt_ok ⟨4, sp_23_v, H⟩
theorem sp_24_v : tr_lt sq_4_4 sq_12_9 sq_13_10 sq_15_6 2 1 = some 2 := by decide +kernel
theorem sp_24 {e : Int32 → Int32} {post : Int32 → Prop} (H : post (e 2)) : wpX_letter post (6, tr_g sq_1_5, tr_g sq_2_5, tr_g sq_3_5, tr_h e sq_4_4, tr_g sq_5_4, tr_g sq_6_4, tr_g sq_7_0, tr_g sq_8_5, tr_g sq_9_5, tr_g sq_10_10, tr_g sq_11_6, tr_g sq_12_9, tr_g sq_13_10, tr_g sq_14_8, tr_g sq_15_6) 2 1 := tr_lt_ok ⟨2, sp_24_v, H⟩
theorem sp_25_v : tr_ro sq_15_6 2 = some 2 := by decide +kernel
theorem sp_25 {e : Int32 → Int32} {post : Int32 → Prop} (H : post 2) : wpX_length post (6, tr_g sq_1_5, tr_g sq_2_5, tr_g sq_3_5, tr_h e sq_4_4, tr_g sq_5_4, tr_g sq_6_4, tr_g sq_7_0, tr_g sq_8_5, tr_g sq_9_5, tr_g sq_10_10, tr_g sq_11_6, tr_g sq_12_9, tr_g sq_13_10, tr_g sq_14_8, tr_g sq_15_6) 2 := tr_ln_ok ⟨2, sp_25_v, H⟩
theorem sp_26_v : tr_ro sq_14_8 2 = some 3 := by decide +kernel
theorem sp_26 {e : Int32 → Int32} {post : Int32 → Prop} (H : post 3) : wpX_row post (6, tr_g sq_1_5, tr_g sq_2_5, tr_g sq_3_5, tr_h e sq_4_4, tr_g sq_5_4, tr_g sq_6_4, tr_g sq_7_0, tr_g sq_8_5, tr_g sq_9_5, tr_g sq_10_10, tr_g sq_11_6, tr_g sq_12_9, tr_g sq_13_10, tr_g sq_14_8, tr_g sq_15_6) 2 := tr_ro_ok ⟨3, sp_26_v, H⟩
theorem sp_27_v : tr_al sq_4_4 sq_12_9 sq_13_10 sq_15_6 0 2 = some 0 := by decide +kernel
theorem sp_27 {e : Int32 → Int32} {post : Int32 → Prop} (H : post 0) : wpX_alike post (6, tr_g sq_1_5, tr_g sq_2_5, tr_g sq_3_5, tr_h e sq_4_4, tr_g sq_5_4, tr_g sq_6_4, tr_g sq_7_0, tr_g sq_8_5, tr_g sq_9_5, tr_g sq_10_10, tr_g sq_11_6, tr_g sq_12_9, tr_g sq_13_10, tr_g sq_14_8, tr_g sq_15_6) 0 2 := tr_al_ok ⟨0, sp_27_v, H⟩
theorem sp_28_v : tr_ck (tr_sy (6, sq_1_5, sq_2_5, sq_3_5, sq_4_4, sq_5_4, sq_6_4, sq_7_0, sq_8_5, sq_9_5, sq_10_10, sq_11_6, sq_12_9, sq_13_10, sq_14_8, sq_15_6) 2 0) 0 (6, sq_1_5, sq_2_5, sq_3_5, sq_4_4, sq_5_4, sq_6_4, sq_7_0, sq_8_5, sq_9_5, sq_10_11, sq_11_6, sq_12_10, sq_13_11, sq_14_9, sq_15_9) = true := by decide +kernel
theorem sp_28 {e : Int32 → Int32} {post : Int32 → St2 → Prop} (H : post 0 (6, tr_g sq_1_5, tr_g sq_2_5, tr_g sq_3_5, tr_h e sq_4_4, tr_g sq_5_4, tr_g sq_6_4, tr_g sq_7_0, tr_g sq_8_5, tr_g sq_9_5, tr_g sq_10_11, tr_g sq_11_6, tr_g sq_12_10, tr_g sq_13_11, tr_g sq_14_9, tr_g sq_15_9)) : wpX_sync post (6, tr_g sq_1_5, tr_g sq_2_5, tr_g sq_3_5, tr_h e sq_4_4, tr_g sq_5_4, tr_g sq_6_4, tr_g sq_7_0, tr_g sq_8_5, tr_g sq_9_5, tr_g sq_10_10, tr_g sq_11_6, tr_g sq_12_9, tr_g sq_13_10, tr_g sq_14_8, tr_g sq_15_6) 2 0 := tr_sy_ok ⟨(0, (6, sq_1_5, sq_2_5, sq_3_5, sq_4_4, sq_5_4, sq_6_4, sq_7_0, sq_8_5, sq_9_5, sq_10_11, sq_11_6, sq_12_10, sq_13_11, sq_14_9, sq_15_9)), tr_ck_ok sp_28_v, H⟩
theorem sp_29_v : tr_ro sq_15_9 0 = some 4 := by decide +kernel
theorem sp_29 {e : Int32 → Int32} {post : Int32 → Prop} (H : post 4) : wpX_length post (6, tr_g sq_1_5, tr_g sq_2_5, tr_g sq_3_5, tr_h e sq_4_4, tr_g sq_5_4, tr_g sq_6_4, tr_g sq_7_0, tr_g sq_8_5, tr_g sq_9_5, tr_g sq_10_11, tr_g sq_11_6, tr_g sq_12_10, tr_g sq_13_11, tr_g sq_14_9, tr_g sq_15_9) 0 := tr_ln_ok ⟨4, sp_29_v, H⟩
theorem sp_30_v : tr_lt sq_4_4 sq_12_10 sq_13_11 sq_15_9 0 0 = some 4 := by decide +kernel
theorem sp_30 {e : Int32 → Int32} {post : Int32 → Prop} (H : post (e 4)) : wpX_letter post (6, tr_g sq_1_5, tr_g sq_2_5, tr_g sq_3_5, tr_h e sq_4_4, tr_g sq_5_4, tr_g sq_6_4, tr_g sq_7_0, tr_g sq_8_5, tr_g sq_9_5, tr_g sq_10_11, tr_g sq_11_6, tr_g sq_12_10, tr_g sq_13_11, tr_g sq_14_9, tr_g sq_15_9) 0 0 := tr_lt_ok ⟨4, sp_30_v, H⟩
theorem sp_31_v : tr_lt sq_4_4 sq_12_10 sq_13_11 sq_15_9 0 1 = some 2 := by decide +kernel
theorem sp_31 {e : Int32 → Int32} {post : Int32 → Prop} (H : post (e 2)) : wpX_letter post (6, tr_g sq_1_5, tr_g sq_2_5, tr_g sq_3_5, tr_h e sq_4_4, tr_g sq_5_4, tr_g sq_6_4, tr_g sq_7_0, tr_g sq_8_5, tr_g sq_9_5, tr_g sq_10_11, tr_g sq_11_6, tr_g sq_12_10, tr_g sq_13_11, tr_g sq_14_9, tr_g sq_15_9) 0 1 := tr_lt_ok ⟨2, sp_31_v, H⟩
theorem sp_32_v : tr_lt sq_4_4 sq_12_10 sq_13_11 sq_15_9 0 2 = some 3 := by decide +kernel
theorem sp_32 {e : Int32 → Int32} {post : Int32 → Prop} (H : post (e 3)) : wpX_letter post (6, tr_g sq_1_5, tr_g sq_2_5, tr_g sq_3_5, tr_h e sq_4_4, tr_g sq_5_4, tr_g sq_6_4, tr_g sq_7_0, tr_g sq_8_5, tr_g sq_9_5, tr_g sq_10_11, tr_g sq_11_6, tr_g sq_12_10, tr_g sq_13_11, tr_g sq_14_9, tr_g sq_15_9) 0 2 := tr_lt_ok ⟨3, sp_32_v, H⟩
theorem sp_33_v : tr_lt sq_4_4 sq_12_10 sq_13_11 sq_15_9 0 3 = some 4 := by decide +kernel
theorem sp_33 {e : Int32 → Int32} {post : Int32 → Prop} (H : post (e 4)) : wpX_letter post (6, tr_g sq_1_5, tr_g sq_2_5, tr_g sq_3_5, tr_h e sq_4_4, tr_g sq_5_4, tr_g sq_6_4, tr_g sq_7_0, tr_g sq_8_5, tr_g sq_9_5, tr_g sq_10_11, tr_g sq_11_6, tr_g sq_12_10, tr_g sq_13_11, tr_g sq_14_9, tr_g sq_15_9) 0 3 := tr_lt_ok ⟨4, sp_33_v, H⟩
theorem sp_34_v : tr_ro sq_14_9 0 = some 5 := by decide +kernel
theorem sp_34 {e : Int32 → Int32} {post : Int32 → Prop} (H : post 5) : wpX_row post (6, tr_g sq_1_5, tr_g sq_2_5, tr_g sq_3_5, tr_h e sq_4_4, tr_g sq_5_4, tr_g sq_6_4, tr_g sq_7_0, tr_g sq_8_5, tr_g sq_9_5, tr_g sq_10_11, tr_g sq_11_6, tr_g sq_12_10, tr_g sq_13_11, tr_g sq_14_9, tr_g sq_15_9) 0 := tr_ro_ok ⟨5, sp_34_v, H⟩
end
section
theorem sp_35_v : tr_ck (tr_dl (6, sq_1_5, sq_2_5, sq_3_5, sq_4_4, sq_5_4, sq_6_4, sq_7_0, sq_8_5, sq_9_5, sq_10_11, sq_11_6, sq_12_10, sq_13_11, sq_14_9, sq_15_9) 0 0) 3 (7, sq_1_6, sq_2_6, sq_3_6, sq_4_4, sq_5_4, sq_6_4, sq_7_1, sq_8_6, sq_9_6, sq_10_12, sq_11_6, sq_12_10, sq_13_12, sq_14_9, sq_15_6) = true := by decide +kernel
theorem sp_35 {e : Int32 → Int32} {post : Int32 → St2 → Prop} (H : post 3 (7, tr_g sq_1_6, tr_g sq_2_6, tr_g sq_3_6, tr_h e sq_4_4, tr_g sq_5_4, tr_g sq_6_4, tr_g sq_7_1, tr_g sq_8_6, tr_g sq_9_6, tr_g sq_10_12, tr_g sq_11_6, tr_g sq_12_10, tr_g sq_13_12, tr_g sq_14_9, tr_g sq_15_6)) : wpX_delete post (6, tr_g sq_1_5, tr_g sq_2_5, tr_g sq_3_5, tr_h e sq_4_4, tr_g sq_5_4, tr_g sq_6_4, tr_g sq_7_0, tr_g sq_8_5, tr_g sq_9_5, tr_g sq_10_11, tr_g sq_11_6, tr_g sq_12_10, tr_g sq_13_11, tr_g sq_14_9, tr_g sq_15_9) 0 0 := tr_dl_ok ⟨(3, (7, sq_1_6, sq_2_6, sq_3_6, sq_4_4, sq_5_4, sq_6_4, sq_7_1, sq_8_6, sq_9_6, sq_10_12, sq_11_6, sq_12_10, sq_13_12, sq_14_9, sq_15_6)), tr_ck_ok sp_35_v, H⟩
theorem sp_36_v : tr_ro sq_14_9 0 = some 5 := by decide +kernel
theorem sp_36 {e : Int32 → Int32} {post : Int32 → Prop} (H : post 5) : wpX_row post (7, tr_g sq_1_6, tr_g sq_2_6, tr_g sq_3_6, tr_h e sq_4_4, tr_g sq_5_4, tr_g sq_6_4, tr_g sq_7_1, tr_g sq_8_6, tr_g sq_9_6, tr_g sq_10_12, tr_g sq_11_6, tr_g sq_12_10, tr_g sq_13_12, tr_g sq_14_9, tr_g sq_15_6) 0 := tr_ro_ok ⟨5, sp_36_v, H⟩
theorem sp_37_v : tr_ck (tr_de (7, sq_1_6, sq_2_6, sq_3_6, sq_4_4, sq_5_4, sq_6_4, sq_7_1, sq_8_6, sq_9_6, sq_10_12, sq_11_6, sq_12_10, sq_13_12, sq_14_9, sq_15_6) 0 2) 0 (7, sq_1_6, sq_2_6, sq_3_6, sq_4_4, sq_5_4, sq_6_4, sq_7_1, sq_8_6, sq_9_6, sq_10_13, sq_11_6, sq_12_11, sq_13_13, sq_14_10, sq_15_8) = true := by decide +kernel
theorem sp_37 {e : Int32 → Int32} {post : Int32 → St2 → Prop} (H : post 0 (7, tr_g sq_1_6, tr_g sq_2_6, tr_g sq_3_6, tr_h e sq_4_4, tr_g sq_5_4, tr_g sq_6_4, tr_g sq_7_1, tr_g sq_8_6, tr_g sq_9_6, tr_g sq_10_13, tr_g sq_11_6, tr_g sq_12_11, tr_g sq_13_13, tr_g sq_14_10, tr_g sq_15_8)) : wpX_deliver post (7, tr_g sq_1_6, tr_g sq_2_6, tr_g sq_3_6, tr_h e sq_4_4, tr_g sq_5_4, tr_g sq_6_4, tr_g sq_7_1, tr_g sq_8_6, tr_g sq_9_6, tr_g sq_10_12, tr_g sq_11_6, tr_g sq_12_10, tr_g sq_13_12, tr_g sq_14_9, tr_g sq_15_6) 0 2 := tr_de_ok ⟨(0, (7, sq_1_6, sq_2_6, sq_3_6, sq_4_4, sq_5_4, sq_6_4, sq_7_1, sq_8_6, sq_9_6, sq_10_13, sq_11_6, sq_12_11, sq_13_13, sq_14_10, sq_15_8)), tr_ck_ok sp_37_v, H⟩
theorem sp_38_v : tr_ck (tr_de (7, sq_1_6, sq_2_6, sq_3_6, sq_4_4, sq_5_4, sq_6_4, sq_7_1, sq_8_6, sq_9_6, sq_10_13, sq_11_6, sq_12_11, sq_13_13, sq_14_10, sq_15_8) 0 2) 0 (7, sq_1_6, sq_2_6, sq_3_6, sq_4_4, sq_5_4, sq_6_4, sq_7_1, sq_8_6, sq_9_6, sq_10_14, sq_11_7, sq_12_12, sq_13_14, sq_14_11, sq_15_10) = true := by decide +kernel
theorem sp_38 {e : Int32 → Int32} {post : Int32 → St2 → Prop} (H : post 0 (7, tr_g sq_1_6, tr_g sq_2_6, tr_g sq_3_6, tr_h e sq_4_4, tr_g sq_5_4, tr_g sq_6_4, tr_g sq_7_1, tr_g sq_8_6, tr_g sq_9_6, tr_g sq_10_14, tr_g sq_11_7, tr_g sq_12_12, tr_g sq_13_14, tr_g sq_14_11, tr_g sq_15_10)) : wpX_deliver post (7, tr_g sq_1_6, tr_g sq_2_6, tr_g sq_3_6, tr_h e sq_4_4, tr_g sq_5_4, tr_g sq_6_4, tr_g sq_7_1, tr_g sq_8_6, tr_g sq_9_6, tr_g sq_10_13, tr_g sq_11_6, tr_g sq_12_11, tr_g sq_13_13, tr_g sq_14_10, tr_g sq_15_8) 0 2 := tr_de_ok ⟨(0, (7, sq_1_6, sq_2_6, sq_3_6, sq_4_4, sq_5_4, sq_6_4, sq_7_1, sq_8_6, sq_9_6, sq_10_14, sq_11_7, sq_12_12, sq_13_14, sq_14_11, sq_15_10)), tr_ck_ok sp_38_v, H⟩
theorem sp_39_v : tr_ck (tr_de (7, sq_1_6, sq_2_6, sq_3_6, sq_4_4, sq_5_4, sq_6_4, sq_7_1, sq_8_6, sq_9_6, sq_10_14, sq_11_7, sq_12_12, sq_13_14, sq_14_11, sq_15_10) 0 2) 0 (7, sq_1_6, sq_2_6, sq_3_6, sq_4_4, sq_5_4, sq_6_4, sq_7_1, sq_8_6, sq_9_6, sq_10_15, sq_11_7, sq_12_12, sq_13_15, sq_14_11, sq_15_8) = true := by decide +kernel
theorem sp_39 {e : Int32 → Int32} {post : Int32 → St2 → Prop} (H : post 0 (7, tr_g sq_1_6, tr_g sq_2_6, tr_g sq_3_6, tr_h e sq_4_4, tr_g sq_5_4, tr_g sq_6_4, tr_g sq_7_1, tr_g sq_8_6, tr_g sq_9_6, tr_g sq_10_15, tr_g sq_11_7, tr_g sq_12_12, tr_g sq_13_15, tr_g sq_14_11, tr_g sq_15_8)) : wpX_deliver post (7, tr_g sq_1_6, tr_g sq_2_6, tr_g sq_3_6, tr_h e sq_4_4, tr_g sq_5_4, tr_g sq_6_4, tr_g sq_7_1, tr_g sq_8_6, tr_g sq_9_6, tr_g sq_10_14, tr_g sq_11_7, tr_g sq_12_12, tr_g sq_13_14, tr_g sq_14_11, tr_g sq_15_10) 0 2 := tr_de_ok ⟨(0, (7, sq_1_6, sq_2_6, sq_3_6, sq_4_4, sq_5_4, sq_6_4, sq_7_1, sq_8_6, sq_9_6, sq_10_15, sq_11_7, sq_12_12, sq_13_15, sq_14_11, sq_15_8)), tr_ck_ok sp_39_v, H⟩
theorem sp_40_v : tr_al sq_4_4 sq_12_12 sq_13_15 sq_15_8 0 2 = some 1 := by decide +kernel
theorem sp_40 {e : Int32 → Int32} {post : Int32 → Prop} (H : post 1) : wpX_alike post (7, tr_g sq_1_6, tr_g sq_2_6, tr_g sq_3_6, tr_h e sq_4_4, tr_g sq_5_4, tr_g sq_6_4, tr_g sq_7_1, tr_g sq_8_6, tr_g sq_9_6, tr_g sq_10_15, tr_g sq_11_7, tr_g sq_12_12, tr_g sq_13_15, tr_g sq_14_11, tr_g sq_15_8) 0 2 := tr_al_ok ⟨1, sp_40_v, H⟩
theorem sp_41_v : tr_ro sq_15_8 2 = some 3 := by decide +kernel
theorem sp_41 {e : Int32 → Int32} {post : Int32 → Prop} (H : post 3) : wpX_length post (7, tr_g sq_1_6, tr_g sq_2_6, tr_g sq_3_6, tr_h e sq_4_4, tr_g sq_5_4, tr_g sq_6_4, tr_g sq_7_1, tr_g sq_8_6, tr_g sq_9_6, tr_g sq_10_15, tr_g sq_11_7, tr_g sq_12_12, tr_g sq_13_15, tr_g sq_14_11, tr_g sq_15_8) 2 := tr_ln_ok ⟨3, sp_41_v, H⟩
theorem sp_42_v : tr_lt sq_4_4 sq_12_12 sq_13_15 sq_15_8 2 0 = some 2 := by decide +kernel
theorem sp_42 {e : Int32 → Int32} {post : Int32 → Prop} (H : post (e 2)) : wpX_letter post (7, tr_g sq_1_6, tr_g sq_2_6, tr_g sq_3_6, tr_h e sq_4_4, tr_g sq_5_4, tr_g sq_6_4, tr_g sq_7_1, tr_g sq_8_6, tr_g sq_9_6, tr_g sq_10_15, tr_g sq_11_7, tr_g sq_12_12, tr_g sq_13_15, tr_g sq_14_11, tr_g sq_15_8) 2 0 := tr_lt_ok ⟨2, sp_42_v, H⟩
theorem sp_43_v : tr_ck (tr_ii (7, sq_1_6, sq_2_6, sq_3_6, sq_4_4, sq_5_4, sq_6_4, sq_7_1, sq_8_6, sq_9_6, sq_10_15, sq_11_7, sq_12_12, sq_13_15, sq_14_11, sq_15_8) 1 2 1) 3 (8, sq_1_7, sq_2_7, sq_3_7, sq_4_5, sq_5_5, sq_6_5, sq_7_1, sq_8_7, sq_9_7, sq_10_16, sq_11_8, sq_12_13, sq_13_16, sq_14_12, sq_15_11) = true := by decide +kernel
theorem sp_43 {e : Int32 → Int32} {post : Int32 → St2 → Prop} (H : post 3 (8, tr_g sq_1_7, tr_g sq_2_7, tr_g sq_3_7, tr_h e sq_4_5, tr_g sq_5_5, tr_g sq_6_5, tr_g sq_7_1, tr_g sq_8_7, tr_g sq_9_7, tr_g sq_10_16, tr_g sq_11_8, tr_g sq_12_13, tr_g sq_13_16, tr_g sq_14_12, tr_g sq_15_11)) : wpX_insert post (7, tr_g sq_1_6, tr_g sq_2_6, tr_g sq_3_6, tr_h e sq_4_4, tr_g sq_5_4, tr_g sq_6_4, tr_g sq_7_1, tr_g sq_8_6, tr_g sq_9_6, tr_g sq_10_15, tr_g sq_11_7, tr_g sq_12_12, tr_g sq_13_15, tr_g sq_14_11, tr_g sq_15_8) 1 2 (e 1) := tr_ii_ok ⟨(3, (8, sq_1_7, sq_2_7, sq_3_7, sq_4_5, sq_5_5, sq_6_5, sq_7_1, sq_8_7, sq_9_7, sq_10_16, sq_11_8, sq_12_13, sq_13_16, sq_14_12, sq_15_11)), tr_ck_ok sp_43_v, H⟩
theorem sp_44_v : tr_ck (tr_ii (8, sq_1_7, sq_2_7, sq_3_7, sq_4_5, sq_5_5, sq_6_5, sq_7_1, sq_8_7, sq_9_7, sq_10_16, sq_11_8, sq_12_13, sq_13_16, sq_14_12, sq_15_11) 2 0 3) 4 (9, sq_1_8, sq_2_8, sq_3_8, sq_4_6, sq_5_6, sq_6_6, sq_7_1, sq_8_8, sq_9_8, sq_10_17, sq_11_9, sq_12_14, sq_13_17, sq_14_13, sq_15_12) = true := by decide +kernel
theorem sp_44 {e : Int32 → Int32} {post : Int32 → St2 → Prop} (H : post 4 (9, tr_g sq_1_8, tr_g sq_2_8, tr_g sq_3_8, tr_h e sq_4_6, tr_g sq_5_6, tr_g sq_6_6, tr_g sq_7_1, tr_g sq_8_8, tr_g sq_9_8, tr_g sq_10_17, tr_g sq_11_9, tr_g sq_12_14, tr_g sq_13_17, tr_g sq_14_13, tr_g sq_15_12)) : wpX_insert post (8, tr_g sq_1_7, tr_g sq_2_7, tr_g sq_3_7, tr_h e sq_4_5, tr_g sq_5_5, tr_g sq_6_5, tr_g sq_7_1, tr_g sq_8_7, tr_g sq_9_7, tr_g sq_10_16, tr_g sq_11_8, tr_g sq_12_13, tr_g sq_13_16, tr_g sq_14_12, tr_g sq_15_11) 2 0 (e 3) := tr_ii_ok ⟨(4, (9, sq_1_8, sq_2_8, sq_3_8, sq_4_6, sq_5_6, sq_6_6, sq_7_1, sq_8_8, sq_9_8, sq_10_17, sq_11_9, sq_12_14, sq_13_17, sq_14_13, sq_15_12)), tr_ck_ok sp_44_v, H⟩
theorem sp_45_v : tr_ck (tr_sy (9, sq_1_8, sq_2_8, sq_3_8, sq_4_6, sq_5_6, sq_6_6, sq_7_1, sq_8_8, sq_9_8, sq_10_17, sq_11_9, sq_12_14, sq_13_17, sq_14_13, sq_15_12) 1 2) 0 (9, sq_1_8, sq_2_8, sq_3_8, sq_4_6, sq_5_6, sq_6_6, sq_7_1, sq_8_8, sq_9_8, sq_10_18, sq_11_9, sq_12_15, sq_13_18, sq_14_14, sq_15_13) = true := by decide +kernel
theorem sp_45 {e : Int32 → Int32} {post : Int32 → St2 → Prop} (H : post 0 (9, tr_g sq_1_8, tr_g sq_2_8, tr_g sq_3_8, tr_h e sq_4_6, tr_g sq_5_6, tr_g sq_6_6, tr_g sq_7_1, tr_g sq_8_8, tr_g sq_9_8, tr_g sq_10_18, tr_g sq_11_9, tr_g sq_12_15, tr_g sq_13_18, tr_g sq_14_14, tr_g sq_15_13)) : wpX_sync post (9, tr_g sq_1_8, tr_g sq_2_8, tr_g sq_3_8, tr_h e sq_4_6, tr_g sq_5_6, tr_g sq_6_6, tr_g sq_7_1, tr_g sq_8_8, tr_g sq_9_8, tr_g sq_10_17, tr_g sq_11_9, tr_g sq_12_14, tr_g sq_13_17, tr_g sq_14_13, tr_g sq_15_12) 1 2 := tr_sy_ok ⟨(0, (9, sq_1_8, sq_2_8, sq_3_8, sq_4_6, sq_5_6, sq_6_6, sq_7_1, sq_8_8, sq_9_8, sq_10_18, sq_11_9, sq_12_15, sq_13_18, sq_14_14, sq_15_13)), tr_ck_ok sp_45_v, H⟩
theorem sp_46_v : tr_ck (tr_sy (9, sq_1_8, sq_2_8, sq_3_8, sq_4_6, sq_5_6, sq_6_6, sq_7_1, sq_8_8, sq_9_8, sq_10_18, sq_11_9, sq_12_15, sq_13_18, sq_14_14, sq_15_13) 2 1) 0 (9, sq_1_8, sq_2_8, sq_3_8, sq_4_6, sq_5_6, sq_6_6, sq_7_1, sq_8_8, sq_9_8, sq_10_19, sq_11_10, sq_12_16, sq_13_19, sq_14_15, sq_15_14) = true := by decide +kernel
theorem sp_46 {e : Int32 → Int32} {post : Int32 → St2 → Prop} (H : post 0 (9, tr_g sq_1_8, tr_g sq_2_8, tr_g sq_3_8, tr_h e sq_4_6, tr_g sq_5_6, tr_g sq_6_6, tr_g sq_7_1, tr_g sq_8_8, tr_g sq_9_8, tr_g sq_10_19, tr_g sq_11_10, tr_g sq_12_16, tr_g sq_13_19, tr_g sq_14_15, tr_g sq_15_14)) : wpX_sync post (9, tr_g sq_1_8, tr_g sq_2_8, tr_g sq_3_8, tr_h e sq_4_6, tr_g sq_5_6, tr_g sq_6_6, tr_g sq_7_1, tr_g sq_8_8, tr_g sq_9_8, tr_g sq_10_18, tr_g sq_11_9, tr_g sq_12_15, tr_g sq_13_18, tr_g sq_14_14, tr_g sq_15_13) 2 1 := tr_sy_ok ⟨(0, (9, sq_1_8, sq_2_8, sq_3_8, sq_4_6, sq_5_6, sq_6_6, sq_7_1, sq_8_8, sq_9_8, sq_10_19, sq_11_10, sq_12_16, sq_13_19, sq_14_15, sq_15_14)), tr_ck_ok sp_46_v, H⟩
theorem sp_47_v : tr_ck (tr_sy (9, sq_1_8, sq_2_8, sq_3_8, sq_4_6, sq_5_6, sq_6_6, sq_7_1, sq_8_8, sq_9_8, sq_10_19, sq_11_10, sq_12_16, sq_13_19, sq_14_15, sq_15_14) 1 0) 0 (9, sq_1_8, sq_2_8, sq_3_8, sq_4_6, sq_5_6, sq_6_6, sq_7_1, sq_8_8, sq_9_8, sq_10_20, sq_11_11, sq_12_17, sq_13_20, sq_14_16, sq_15_15) = true := by decide +kernel
theorem sp_47 {e : Int32 → Int32} {post : Int32 → St2 → Prop} (H : post 0 (9, tr_g sq_1_8, tr_g sq_2_8, tr_g sq_3_8, tr_h e sq_4_6, tr_g sq_5_6, tr_g sq_6_6, tr_g sq_7_1, tr_g sq_8_8, tr_g sq_9_8, tr_g sq_10_20, tr_g sq_11_11, tr_g sq_12_17, tr_g sq_13_20, tr_g sq_14_16, tr_g sq_15_15)) : wpX_sync post (9, tr_g sq_1_8, tr_g sq_2_8, tr_g sq_3_8, tr_h e sq_4_6, tr_g sq_5_6, tr_g sq_6_6, tr_g sq_7_1, tr_g sq_8_8, tr_g sq_9_8, tr_g sq_10_19, tr_g sq_11_10, tr_g sq_12_16, tr_g sq_13_19, tr_g sq_14_15, tr_g sq_15_14) 1 0 := tr_sy_ok ⟨(0, (9, sq_1_8, sq_2_8, sq_3_8, sq_4_6, sq_5_6, sq_6_6, sq_7_1, sq_8_8, sq_9_8, sq_10_20, sq_11_11, sq_12_17, sq_13_20, sq_14_16, sq_15_15)), tr_ck_ok sp_47_v, H⟩
theorem sp_48_v : tr_al sq_4_6 sq_12_17 sq_13_20 sq_15_15 0 1 = some 1 := by decide +kernel
theorem sp_48 {e : Int32 → Int32} {post : Int32 → Prop} (H : post 1) : wpX_alike post (9, tr_g sq_1_8, tr_g sq_2_8, tr_g sq_3_8, tr_h e sq_4_6, tr_g sq_5_6, tr_g sq_6_6, tr_g sq_7_1, tr_g sq_8_8, tr_g sq_9_8, tr_g sq_10_20, tr_g sq_11_11, tr_g sq_12_17, tr_g sq_13_20, tr_g sq_14_16, tr_g sq_15_15) 0 1 := tr_al_ok ⟨1, sp_48_v, H⟩
theorem sp_49_v : tr_al sq_4_6 sq_12_17 sq_13_20 sq_15_15 1 2 = some 1 := by decide +kernel
theorem sp_49 {e : Int32 → Int32} {post : Int32 → Prop} (H : post 1) : wpX_alike post (9, tr_g sq_1_8, tr_g sq_2_8, tr_g sq_3_8, tr_h e sq_4_6, tr_g sq_5_6, tr_g sq_6_6, tr_g sq_7_1, tr_g sq_8_8, tr_g sq_9_8, tr_g sq_10_20, tr_g sq_11_11, tr_g sq_12_17, tr_g sq_13_20, tr_g sq_14_16, tr_g sq_15_15) 1 2 := tr_al_ok ⟨1, sp_49_v, H⟩
theorem sp_50_v : tr_lt sq_4_6 sq_12_17 sq_13_20 sq_15_15 0 0 = some 3 := by decide +kernel
theorem sp_50 {e : Int32 → Int32} {post : Int32 → Prop} (H : post (e 3)) : wpX_letter post (9, tr_g sq_1_8, tr_g sq_2_8, tr_g sq_3_8, tr_h e sq_4_6, tr_g sq_5_6, tr_g sq_6_6, tr_g sq_7_1, tr_g sq_8_8, tr_g sq_9_8, tr_g sq_10_20, tr_g sq_11_11, tr_g sq_12_17, tr_g sq_13_20, tr_g sq_14_16, tr_g sq_15_15) 0 0 := tr_lt_ok ⟨3, sp_50_v, H⟩
theorem sp_51_v : tr_ro sq_14_16 1 = some 7 := by decide +kernel
theorem sp_51 {e : Int32 → Int32} {post : Int32 → Prop} (H : post 7) : wpX_row post (9, tr_g sq_1_8, tr_g sq_2_8, tr_g sq_3_8, tr_h e sq_4_6, tr_g sq_5_6, tr_g sq_6_6, tr_g sq_7_1, tr_g sq_8_8, tr_g sq_9_8, tr_g sq_10_20, tr_g sq_11_11, tr_g sq_12_17, tr_g sq_13_20, tr_g sq_14_16, tr_g sq_15_15) 1 := tr_ro_ok ⟨7, sp_51_v, H⟩
theorem sp_52_v : tr_ro sq_15_15 1 = some 5 := by decide +kernel
theorem sp_52 {e : Int32 → Int32} {post : Int32 → Prop} (H : post 5) : wpX_length post (9, tr_g sq_1_8, tr_g sq_2_8, tr_g sq_3_8, tr_h e sq_4_6, tr_g sq_5_6, tr_g sq_6_6, tr_g sq_7_1, tr_g sq_8_8, tr_g sq_9_8, tr_g sq_10_20, tr_g sq_11_11, tr_g sq_12_17, tr_g sq_13_20, tr_g sq_14_16, tr_g sq_15_15) 1 := tr_ln_ok ⟨5, sp_52_v, H⟩
theorem sp_53_v : tr_ko sq_10_20 0 1 = some 3 := by decide +kernel
theorem sp_53 {e : Int32 → Int32} {post : Int32 → Prop} (H : post 3) : wpX_known post (9, tr_g sq_1_8, tr_g sq_2_8, tr_g sq_3_8, tr_h e sq_4_6, tr_g sq_5_6, tr_g sq_6_6, tr_g sq_7_1, tr_g sq_8_8, tr_g sq_9_8, tr_g sq_10_20, tr_g sq_11_11, tr_g sq_12_17, tr_g sq_13_20, tr_g sq_14_16, tr_g sq_15_15) 0 1 := tr_ko_ok ⟨3, sp_53_v, H⟩
theorem sp_54_v : tr_ko sq_10_20 1 2 = some 2 := by decide +kernel
theorem sp_54 {e : Int32 → Int32} {post : Int32 → Prop} (H : post 2) : wpX_known post (9, tr_g sq_1_8, tr_g sq_2_8, tr_g sq_3_8, tr_h e sq_4_6, tr_g sq_5_6, tr_g sq_6_6, tr_g sq_7_1, tr_g sq_8_8, tr_g sq_9_8, tr_g sq_10_20, tr_g sq_11_11, tr_g sq_12_17, tr_g sq_13_20, tr_g sq_14_16, tr_g sq_15_15) 1 2 := tr_ko_ok ⟨2, sp_54_v, H⟩
end
section
theorem sp_55_v : tr_ck (tr_dl (6, sq_1_5, sq_2_5, sq_3_5, sq_4_4, sq_5_4, sq_6_4, sq_7_0, sq_8_5, sq_9_5, sq_10_11, sq_11_6, sq_12_10, sq_13_11, sq_14_9, sq_15_9) 0 1) 3 (7, sq_1_6, sq_2_6, sq_3_6, sq_4_4, sq_5_4, sq_6_4, sq_7_2, sq_8_6, sq_9_6, sq_10_12, sq_11_6, sq_12_10, sq_13_21, sq_14_9, sq_15_6) = true := by decide +kernel
theorem sp_55 {e : Int32 → Int32} {post : Int32 → St2 → Prop} (H : post 3 (7, tr_g sq_1_6, tr_g sq_2_6, tr_g sq_3_6, tr_h e sq_4_4, tr_g sq_5_4, tr_g sq_6_4, tr_g sq_7_2, tr_g sq_8_6, tr_g sq_9_6, tr_g sq_10_12, tr_g sq_11_6, tr_g sq_12_10, tr_g sq_13_21, tr_g sq_14_9, tr_g sq_15_6)) : wpX_delete post (6, tr_g sq_1_5, tr_g sq_2_5, tr_g sq_3_5, tr_h e sq_4_4, tr_g sq_5_4, tr_g sq_6_4, tr_g sq_7_0, tr_g sq_8_5, tr_g sq_9_5, tr_g sq_10_11, tr_g sq_11_6, tr_g sq_12_10, tr_g sq_13_11, tr_g sq_14_9, tr_g sq_15_9) 0 1 := tr_dl_ok ⟨(3, (7, sq_1_6, sq_2_6, sq_3_6, sq_4_4, sq_5_4, sq_6_4, sq_7_2, sq_8_6, sq_9_6, sq_10_12, sq_11_6, sq_12_10, sq_13_21, sq_14_9, sq_15_6)), tr_ck_ok sp_55_v, H⟩
theorem sp_56_v : tr_ro sq_14_9 0 = some 5 := by decide +kernel
theorem sp_56 {e : Int32 → Int32} {post : Int32 → Prop} (H : post 5) : wpX_row post (7, tr_g sq_1_6, tr_g sq_2_6, tr_g sq_3_6, tr_h e sq_4_4, tr_g sq_5_4, tr_g sq_6_4, tr_g sq_7_2, tr_g sq_8_6, tr_g sq_9_6, tr_g sq_10_12, tr_g sq_11_6, tr_g sq_12_10, tr_g sq_13_21, tr_g sq_14_9, tr_g sq_15_6) 0 := tr_ro_ok ⟨5, sp_56_v, H⟩
theorem sp_57_v : tr_ck (tr_de (7, sq_1_6, sq_2_6, sq_3_6, sq_4_4, sq_5_4, sq_6_4, sq_7_2, sq_8_6, sq_9_6, sq_10_12, sq_11_6, sq_12_10, sq_13_21, sq_14_9, sq_15_6) 0 2) 0 (7, sq_1_6, sq_2_6, sq_3_6, sq_4_4, sq_5_4, sq_6_4, sq_7_2, sq_8_6, sq_9_6, sq_10_13, sq_11_6, sq_12_11, sq_13_22, sq_14_10, sq_15_8) = true := by decide +kernel
theorem sp_57 {e : Int32 → Int32} {post : Int32 → St2 → Prop} (H : post 0 (7, tr_g sq_1_6, tr_g sq_2_6, tr_g sq_3_6, tr_h e sq_4_4, tr_g sq_5_4, tr_g sq_6_4, tr_g sq_7_2, tr_g sq_8_6, tr_g sq_9_6, tr_g sq_10_13, tr_g sq_11_6, tr_g sq_12_11, tr_g sq_13_22, tr_g sq_14_10, tr_g sq_15_8)) : wpX_deliver post (7, tr_g sq_1_6, tr_g sq_2_6, tr_g sq_3_6, tr_h e sq_4_4, tr_g sq_5_4, tr_g sq_6_4, tr_g sq_7_2, tr_g sq_8_6, tr_g sq_9_6, tr_g sq_10_12, tr_g sq_11_6, tr_g sq_12_10, tr_g sq_13_21, tr_g sq_14_9, tr_g sq_15_6) 0 2 := tr_de_ok ⟨(0, (7, sq_1_6, sq_2_6, sq_3_6, sq_4_4, sq_5_4, sq_6_4, sq_7_2, sq_8_6, sq_9_6, sq_10_13, sq_11_6, sq_12_11, sq_13_22, sq_14_10, sq_15_8)), tr_ck_ok sp_57_v, H⟩
theorem sp_58_v : tr_ck (tr_de (7, sq_1_6, sq_2_6, sq_3_6, sq_4_4, sq_5_4, sq_6_4, sq_7_2, sq_8_6, sq_9_6, sq_10_13, sq_11_6, sq_12_11, sq_13_22, sq_14_10, sq_15_8) 0 2) 0 (7, sq_1_6, sq_2_6, sq_3_6, sq_4_4, sq_5_4, sq_6_4, sq_7_2, sq_8_6, sq_9_6, sq_10_14, sq_11_7, sq_12_12, sq_13_23, sq_14_11, sq_15_10) = true := by decide +kernel
theorem sp_58 {e : Int32 → Int32} {post : Int32 → St2 → Prop} (H : post 0 (7, tr_g sq_1_6, tr_g sq_2_6, tr_g sq_3_6, tr_h e sq_4_4, tr_g sq_5_4, tr_g sq_6_4, tr_g sq_7_2, tr_g sq_8_6, tr_g sq_9_6, tr_g sq_10_14, tr_g sq_11_7, tr_g sq_12_12, tr_g sq_13_23, tr_g sq_14_11, tr_g sq_15_10)) : wpX_deliver post (7, tr_g sq_1_6, tr_g sq_2_6, tr_g sq_3_6, tr_h e sq_4_4, tr_g sq_5_4, tr_g sq_6_4, tr_g sq_7_2, tr_g sq_8_6, tr_g sq_9_6, tr_g sq_10_13, tr_g sq_11_6, tr_g sq_12_11, tr_g sq_13_22, tr_g sq_14_10, tr_g sq_15_8) 0 2 := tr_de_ok ⟨(0, (7, sq_1_6, sq_2_6, sq_3_6, sq_4_4, sq_5_4, sq_6_4, sq_7_2, sq_8_6, sq_9_6, sq_10_14, sq_11_7, sq_12_12, sq_13_23, sq_14_11, sq_15_10)), tr_ck_ok sp_58_v, H⟩
theorem sp_59_v : tr_ck (tr_de (7, sq_1_6, sq_2_6, sq_3_6, sq_4_4, sq_5_4, sq_6_4, sq_7_2, sq_8_6, sq_9_6, sq_10_14, sq_11_7, sq_12_12, sq_13_23, sq_14_11, sq_15_10) 0 2) 0 (7, sq_1_6, sq_2_6, sq_3_6, sq_4_4, sq_5_4, sq_6_4, sq_7_2, sq_8_6, sq_9_6, sq_10_15, sq_11_7, sq_12_12, sq_13_24, sq_14_11, sq_15_8) = true := by decide +kernel
theorem sp_59 {e : Int32 → Int32} {post : Int32 → St2 → Prop} (H : post 0 (7, tr_g sq_1_6, tr_g sq_2_6, tr_g sq_3_6, tr_h e sq_4_4, tr_g sq_5_4, tr_g sq_6_4, tr_g sq_7_2, tr_g sq_8_6, tr_g sq_9_6, tr_g sq_10_15, tr_g sq_11_7, tr_g sq_12_12, tr_g sq_13_24, tr_g sq_14_11, tr_g sq_15_8)) : wpX_deliver post (7, tr_g sq_1_6, tr_g sq_2_6, tr_g sq_3_6, tr_h e sq_4_4, tr_g sq_5_4, tr_g sq_6_4, tr_g sq_7_2, tr_g sq_8_6, tr_g sq_9_6, tr_g sq_10_14, tr_g sq_11_7, tr_g sq_12_12, tr_g sq_13_23, tr_g sq_14_11, tr_g sq_15_10) 0 2 := tr_de_ok ⟨(0, (7, sq_1_6, sq_2_6, sq_3_6, sq_4_4, sq_5_4, sq_6_4, sq_7_2, sq_8_6, sq_9_6, sq_10_15, sq_11_7, sq_12_12, sq_13_24, sq_14_11, sq_15_8)), tr_ck_ok sp_59_v, H⟩
theorem sp_60_v : tr_al sq_4_4 sq_12_12 sq_13_24 sq_15_8 0 2 = some 1 := by decide +kernel
theorem sp_60 {e : Int32 → Int32} {post : Int32 → Prop} (H : post 1) : wpX_alike post (7, tr_g sq_1_6, tr_g sq_2_6, tr_g sq_3_6, tr_h e sq_4_4, tr_g sq_5_4, tr_g sq_6_4, tr_g sq_7_2, tr_g sq_8_6, tr_g sq_9_6, tr_g sq_10_15, tr_g sq_11_7, tr_g sq_12_12, tr_g sq_13_24, tr_g sq_14_11, tr_g sq_15_8) 0 2 := tr_al_ok ⟨1, sp_60_v, H⟩
theorem sp_61_v : tr_ro sq_15_8 2 = some 3 := by decide +kernel
theorem sp_61 {e : Int32 → Int32} {post : Int32 → Prop} (H : post 3) : wpX_length post (7, tr_g sq_1_6, tr_g sq_2_6, tr_g sq_3_6, tr_h e sq_4_4, tr_g sq_5_4, tr_g sq_6_4, tr_g sq_7_2, tr_g sq_8_6, tr_g sq_9_6, tr_g sq_10_15, tr_g sq_11_7, tr_g sq_12_12, tr_g sq_13_24, tr_g sq_14_11, tr_g sq_15_8) 2 := tr_ln_ok ⟨3, sp_61_v, H⟩
theorem sp_62_v : tr_lt sq_4_4 sq_12_12 sq_13_24 sq_15_8 2 0 = some 4 := by decide +kernel
theorem sp_62 {e : Int32 → Int32} {post : Int32 → Prop} (H : post (e 4)) : wpX_letter post (7, tr_g sq_1_6, tr_g sq_2_6, tr_g sq_3_6, tr_h e sq_4_4, tr_g sq_5_4, tr_g sq_6_4, tr_g sq_7_2, tr_g sq_8_6, tr_g sq_9_6, tr_g sq_10_15, tr_g sq_11_7, tr_g sq_12_12, tr_g sq_13_24, tr_g sq_14_11, tr_g sq_15_8) 2 0 := tr_lt_ok ⟨4, sp_62_v, H⟩
theorem sp_63_v : tr_ck (tr_ii (7, sq_1_6, sq_2_6, sq_3_6, sq_4_4, sq_5_4, sq_6_4, sq_7_2, sq_8_6, sq_9_6, sq_10_15, sq_11_7, sq_12_12, sq_13_24, sq_14_11, sq_15_8) 1 2 1) 3 (8, sq_1_7, sq_2_7, sq_3_7, sq_4_5, sq_5_5, sq_6_5, sq_7_2, sq_8_7, sq_9_7, sq_10_16, sq_11_8, sq_12_13, sq_13_25, sq_14_12, sq_15_11) = true := by decide +kernel
theorem sp_63 {e : Int32 → Int32} {post : Int32 → St2 → Prop} (H : post 3 (8, tr_g sq_1_7, tr_g sq_2_7, tr_g sq_3_7, tr_h e sq_4_5, tr_g sq_5_5, tr_g sq_6_5, tr_g sq_7_2, tr_g sq_8_7, tr_g sq_9_7, tr_g sq_10_16, tr_g sq_11_8, tr_g sq_12_13, tr_g sq_13_25, tr_g sq_14_12, tr_g sq_15_11)) : wpX_insert post (7, tr_g sq_1_6, tr_g sq_2_6, tr_g sq_3_6, tr_h e sq_4_4, tr_g sq_5_4, tr_g sq_6_4, tr_g sq_7_2, tr_g sq_8_6, tr_g sq_9_6, tr_g sq_10_15, tr_g sq_11_7, tr_g sq_12_12, tr_g sq_13_24, tr_g sq_14_11, tr_g sq_15_8) 1 2 (e 1) := tr_ii_ok ⟨(3, (8, sq_1_7, sq_2_7, sq_3_7, sq_4_5, sq_5_5, sq_6_5, sq_7_2, sq_8_7, sq_9_7, sq_10_16, sq_11_8, sq_12_13, sq_13_25, sq_14_12, sq_15_11)), tr_ck_ok sp_63_v, H⟩
theorem sp_64_v : tr_ck (tr_ii (8, sq_1_7, sq_2_7, sq_3_7, sq_4_5, sq_5_5, sq_6_5, sq_7_2, sq_8_7, sq_9_7, sq_10_16, sq_11_8, sq_12_13, sq_13_25, sq_14_12, sq_15_11) 2 0 3) 4 (9, sq_1_8, sq_2_8, sq_3_8, sq_4_6, sq_5_6, sq_6_6, sq_7_2, sq_8_8, sq_9_8, sq_10_17, sq_11_9, sq_12_14, sq_13_26, sq_14_13, sq_15_12) = true := by decide +kernel
theorem sp_64 {e : Int32 → Int32} {post : Int32 → St2 → Prop} (H : post 4 (9, tr_g sq_1_8, tr_g sq_2_8, tr_g sq_3_8, tr_h e sq_4_6, tr_g sq_5_6, tr_g sq_6_6, tr_g sq_7_2, tr_g sq_8_8, tr_g sq_9_8, tr_g sq_10_17, tr_g sq_11_9, tr_g sq_12_14, tr_g sq_13_26, tr_g sq_14_13, tr_g sq_15_12)) : wpX_insert post (8, tr_g sq_1_7, tr_g sq_2_7, tr_g sq_3_7, tr_h e sq_4_5, tr_g sq_5_5, tr_g sq_6_5, tr_g sq_7_2, tr_g sq_8_7, tr_g sq_9_7, tr_g sq_10_16, tr_g sq_11_8, tr_g sq_12_13, tr_g sq_13_25, tr_g sq_14_12, tr_g sq_15_11) 2 0 (e 3) := tr_ii_ok ⟨(4, (9, sq_1_8, sq_2_8, sq_3_8, sq_4_6, sq_5_6, sq_6_6, sq_7_2, sq_8_8, sq_9_8, sq_10_17, sq_11_9, sq_12_14, sq_13_26, sq_14_13, sq_15_12)), tr_ck_ok sp_64_v, H⟩
theorem sp_65_v : tr_ck (tr_sy (9, sq_1_8, sq_2_8, sq_3_8, sq_4_6, sq_5_6, sq_6_6, sq_7_2, sq_8_8, sq_9_8, sq_10_17, sq_11_9, sq_12_14, sq_13_26, sq_14_13, sq_15_12) 1 2) 0 (9, sq_1_8, sq_2_8, sq_3_8, sq_4_6, sq_5_6, sq_6_6, sq_7_2, sq_8_8, sq_9_8, sq_10_18, sq_11_9, sq_12_15, sq_13_27, sq_14_14, sq_15_13) = true := by decide +kernel
theorem sp_65 {e : Int32 → Int32} {post : Int32 → St2 → Prop} (H : post 0 (9, tr_g sq_1_8, tr_g sq_2_8, tr_g sq_3_8, tr_h e sq_4_6, tr_g sq_5_6, tr_g sq_6_6, tr_g sq_7_2, tr_g sq_8_8, tr_g sq_9_8, tr_g sq_10_18, tr_g sq_11_9, tr_g sq_12_15, tr_g sq_13_27, tr_g sq_14_14, tr_g sq_15_13)) : wpX_sync post (9, tr_g sq_1_8, tr_g sq_2_8, tr_g sq_3_8, tr_h e sq_4_6, tr_g sq_5_6, tr_g sq_6_6, tr_g sq_7_2, tr_g sq_8_8, tr_g sq_9_8, tr_g sq_10_17, tr_g sq_11_9, tr_g sq_12_14, tr_g sq_13_26, tr_g sq_14_13, tr_g sq_15_12) 1 2 := tr_sy_ok ⟨(0, (9, sq_1_8, sq_2_8, sq_3_8, sq_4_6, sq_5_6, sq_6_6, sq_7_2, sq_8_8, sq_9_8, sq_10_18, sq_11_9, sq_12_15, sq_13_27, sq_14_14, sq_15_13)), tr_ck_ok sp_65_v, H⟩
theorem sp_66_v : tr_ck (tr_sy (9, sq_1_8, sq_2_8, sq_3_8, sq_4_6, sq_5_6, sq_6_6, sq_7_2, sq_8_8, sq_9_8, sq_10_18, sq_11_9, sq_12_15, sq_13_27, sq_14_14, sq_15_13) 2 1) 0 (9, sq_1_8, sq_2_8, sq_3_8, sq_4_6, sq_5_6, sq_6_6, sq_7_2, sq_8_8, sq_9_8, sq_10_19, sq_11_10, sq_12_16, sq_13_28, sq_14_15, sq_15_14) = true := by decide +kernel
theorem sp_66 {e : Int32 → Int32} {post : Int32 → St2 → Prop} (H : post 0 (9, tr_g sq_1_8, tr_g sq_2_8, tr_g sq_3_8, tr_h e sq_4_6, tr_g sq_5_6, tr_g sq_6_6, tr_g sq_7_2, tr_g sq_8_8, tr_g sq_9_8, tr_g sq_10_19, tr_g sq_11_10, tr_g sq_12_16, tr_g sq_13_28, tr_g sq_14_15, tr_g sq_15_14)) : wpX_sync post (9, tr_g sq_1_8, tr_g sq_2_8, tr_g sq_3_8, tr_h e sq_4_6, tr_g sq_5_6, tr_g sq_6_6, tr_g sq_7_2, tr_g sq_8_8, tr_g sq_9_8, tr_g sq_10_18, tr_g sq_11_9, tr_g sq_12_15, tr_g sq_13_27, tr_g sq_14_14, tr_g sq_15_13) 2 1 := tr_sy_ok ⟨(0, (9, sq_1_8, sq_2_8, sq_3_8, sq_4_6, sq_5_6, sq_6_6, sq_7_2, sq_8_8, sq_9_8, sq_10_19, sq_11_10, sq_12_16, sq_13_28, sq_14_15, sq_15_14)), tr_ck_ok sp_66_v, H⟩
theorem sp_67_v : tr_ck (tr_sy (9, sq_1_8, sq_2_8, sq_3_8, sq_4_6, sq_5_6, sq_6_6, sq_7_2, sq_8_8, sq_9_8, sq_10_19, sq_11_10, sq_12_16, sq_13_28, sq_14_15, sq_15_14) 1 0) 0 (9, sq_1_8, sq_2_8, sq_3_8, sq_4_6, sq_5_6, sq_6_6, sq_7_2, sq_8_8, sq_9_8, sq_10_20, sq_11_11, sq_12_17, sq_13_29, sq_14_16, sq_15_15) = true := by decide +kernel
theorem sp_67 {e : Int32 → Int32} {post : Int32 → St2 → Prop} (H : post 0 (9, tr_g sq_1_8, tr_g sq_2_8, tr_g sq_3_8, tr_h e sq_4_6, tr_g sq_5_6, tr_g sq_6_6, tr_g sq_7_2, tr_g sq_8_8, tr_g sq_9_8, tr_g sq_10_20, tr_g sq_11_11, tr_g sq_12_17, tr_g sq_13_29, tr_g sq_14_16, tr_g sq_15_15)) : wpX_sync post (9, tr_g sq_1_8, tr_g sq_2_8, tr_g sq_3_8, tr_h e sq_4_6, tr_g sq_5_6, tr_g sq_6_6, tr_g sq_7_2, tr_g sq_8_8, tr_g sq_9_8, tr_g sq_10_19, tr_g sq_11_10, tr_g sq_12_16, tr_g sq_13_28, tr_g sq_14_15, tr_g sq_15_14) 1 0 := tr_sy_ok ⟨(0, (9, sq_1_8, sq_2_8, sq_3_8, sq_4_6, sq_5_6, sq_6_6, sq_7_2, sq_8_8, sq_9_8, sq_10_20, sq_11_11, sq_12_17, sq_13_29, sq_14_16, sq_15_15)), tr_ck_ok sp_67_v, H⟩
theorem sp_68_v : tr_al sq_4_6 sq_12_17 sq_13_29 sq_15_15 0 1 = some 1 := by decide +kernel
theorem sp_68 {e : Int32 → Int32} {post : Int32 → Prop} (H : post 1) : wpX_alike post (9, tr_g sq_1_8, tr_g sq_2_8, tr_g sq_3_8, tr_h e sq_4_6, tr_g sq_5_6, tr_g sq_6_6, tr_g sq_7_2, tr_g sq_8_8, tr_g sq_9_8, tr_g sq_10_20, tr_g sq_11_11, tr_g sq_12_17, tr_g sq_13_29, tr_g sq_14_16, tr_g sq_15_15) 0 1 := tr_al_ok ⟨1, sp_68_v, H⟩
theorem sp_69_v : tr_al sq_4_6 sq_12_17 sq_13_29 sq_15_15 1 2 = some 1 := by decide +kernel
theorem sp_69 {e : Int32 → Int32} {post : Int32 → Prop} (H : post 1) : wpX_alike post (9, tr_g sq_1_8, tr_g sq_2_8, tr_g sq_3_8, tr_h e sq_4_6, tr_g sq_5_6, tr_g sq_6_6, tr_g sq_7_2, tr_g sq_8_8, tr_g sq_9_8, tr_g sq_10_20, tr_g sq_11_11, tr_g sq_12_17, tr_g sq_13_29, tr_g sq_14_16, tr_g sq_15_15) 1 2 := tr_al_ok ⟨1, sp_69_v, H⟩
theorem sp_70_v : tr_lt sq_4_6 sq_12_17 sq_13_29 sq_15_15 0 0 = some 3 := by decide +kernel
theorem sp_70 {e : Int32 → Int32} {post : Int32 → Prop} (H : post (e 3)) : wpX_letter post (9, tr_g sq_1_8, tr_g sq_2_8, tr_g sq_3_8, tr_h e sq_4_6, tr_g sq_5_6, tr_g sq_6_6, tr_g sq_7_2, tr_g sq_8_8, tr_g sq_9_8, tr_g sq_10_20, tr_g sq_11_11, tr_g sq_12_17, tr_g sq_13_29, tr_g sq_14_16, tr_g sq_15_15) 0 0 := tr_lt_ok ⟨3, sp_70_v, H⟩
theorem sp_71_v : tr_ro sq_14_16 1 = some 7 := by decide +kernel
theorem sp_71 {e : Int32 → Int32} {post : Int32 → Prop} (H : post 7) : wpX_row post (9, tr_g sq_1_8, tr_g sq_2_8, tr_g sq_3_8, tr_h e sq_4_6, tr_g sq_5_6, tr_g sq_6_6, tr_g sq_7_2, tr_g sq_8_8, tr_g sq_9_8, tr_g sq_10_20, tr_g sq_11_11, tr_g sq_12_17, tr_g sq_13_29, tr_g sq_14_16, tr_g sq_15_15) 1 := tr_ro_ok ⟨7, sp_71_v, H⟩
theorem sp_72_v : tr_ro sq_15_15 1 = some 5 := by decide +kernel
theorem sp_72 {e : Int32 → Int32} {post : Int32 → Prop} (H : post 5) : wpX_length post (9, tr_g sq_1_8, tr_g sq_2_8, tr_g sq_3_8, tr_h e sq_4_6, tr_g sq_5_6, tr_g sq_6_6, tr_g sq_7_2, tr_g sq_8_8, tr_g sq_9_8, tr_g sq_10_20, tr_g sq_11_11, tr_g sq_12_17, tr_g sq_13_29, tr_g sq_14_16, tr_g sq_15_15) 1 := tr_ln_ok ⟨5, sp_72_v, H⟩
theorem sp_73_v : tr_ko sq_10_20 0 1 = some 3 := by decide +kernel
theorem sp_73 {e : Int32 → Int32} {post : Int32 → Prop} (H : post 3) : wpX_known post (9, tr_g sq_1_8, tr_g sq_2_8, tr_g sq_3_8, tr_h e sq_4_6, tr_g sq_5_6, tr_g sq_6_6, tr_g sq_7_2, tr_g sq_8_8, tr_g sq_9_8, tr_g sq_10_20, tr_g sq_11_11, tr_g sq_12_17, tr_g sq_13_29, tr_g sq_14_16, tr_g sq_15_15) 0 1 := tr_ko_ok ⟨3, sp_73_v, H⟩
theorem sp_74_v : tr_ko sq_10_20 1 2 = some 2 := by decide +kernel
theorem sp_74 {e : Int32 → Int32} {post : Int32 → Prop} (H : post 2) : wpX_known post (9, tr_g sq_1_8, tr_g sq_2_8, tr_g sq_3_8, tr_h e sq_4_6, tr_g sq_5_6, tr_g sq_6_6, tr_g sq_7_2, tr_g sq_8_8, tr_g sq_9_8, tr_g sq_10_20, tr_g sq_11_11, tr_g sq_12_17, tr_g sq_13_29, tr_g sq_14_16, tr_g sq_15_15) 1 2 := tr_ko_ok ⟨2, sp_74_v, H⟩
end
section
theorem sp_75_v : tr_ck (tr_dl (6, sq_1_5, sq_2_5, sq_3_5, sq_4_4, sq_5_4, sq_6_4, sq_7_0, sq_8_5, sq_9_5, sq_10_11, sq_11_6, sq_12_10, sq_13_11, sq_14_9, sq_15_9) 0 2) 3 (7, sq_1_6, sq_2_6, sq_3_6, sq_4_4, sq_5_4, sq_6_4, sq_7_3, sq_8_6, sq_9_6, sq_10_12, sq_11_6, sq_12_10, sq_13_30, sq_14_9, sq_15_6) = true := by decide +kernel
theorem sp_75 {e : Int32 → Int32} {post : Int32 → St2 → Prop} (H : post 3 (7, tr_g sq_1_6, tr_g sq_2_6, tr_g sq_3_6, tr_h e sq_4_4, tr_g sq_5_4, tr_g sq_6_4, tr_g sq_7_3, tr_g sq_8_6, tr_g sq_9_6, tr_g sq_10_12, tr_g sq_11_6, tr_g sq_12_10, tr_g sq_13_30, tr_g sq_14_9, tr_g sq_15_6)) : wpX_delete post (6, tr_g sq_1_5, tr_g sq_2_5, tr_g sq_3_5, tr_h e sq_4_4, tr_g sq_5_4, tr_g sq_6_4, tr_g sq_7_0, tr_g sq_8_5, tr_g sq_9_5, tr_g sq_10_11, tr_g sq_11_6, tr_g sq_12_10, tr_g sq_13_11, tr_g sq_14_9, tr_g sq_15_9) 0 2 := tr_dl_ok ⟨(3, (7, sq_1_6, sq_2_6, sq_3_6, sq_4_4, sq_5_4, sq_6_4, sq_7_3, sq_8_6, sq_9_6, sq_10_12, sq_11_6, sq_12_10, sq_13_30, sq_14_9, sq_15_6)), tr_ck_ok sp_75_v, H⟩
theorem sp_76_v : tr_ro sq_14_9 0 = some 5 := by decide +kernel
theorem sp_76 {e : Int32 → Int32} {post : Int32 → Prop} (H : post 5) : wpX_row post (7, tr_g sq_1_6, tr_g sq_2_6, tr_g sq_3_6, tr_h e sq_4_4, tr_g sq_5_4, tr_g sq_6_4, tr_g sq_7_3, tr_g sq_8_6, tr_g sq_9_6, tr_g sq_10_12, tr_g sq_11_6, tr_g sq_12_10, tr_g sq_13_30, tr_g sq_14_9, tr_g sq_15_6) 0 := tr_ro_ok ⟨5, sp_76_v, H⟩
theorem sp_77_v : tr_ck (tr_de (7, sq_1_6, sq_2_6, sq_3_6, sq_4_4, sq_5_4, sq_6_4, sq_7_3, sq_8_6, sq_9_6, sq_10_12, sq_11_6, sq_12_10, sq_13_30, sq_14_9, sq_15_6) 0 2) 0 (7, sq_1_6, sq_2_6, sq_3_6, sq_4_4, sq_5_4, sq_6_4, sq_7_3, sq_8_6, sq_9_6, sq_10_13, sq_11_6, sq_12_11, sq_13_31, sq_14_10, sq_15_8) = true := by decide +kernel
theorem sp_77 {e : Int32 → Int32} {post : Int32 → St2 → Prop} (H : post 0 (7, tr_g sq_1_6, tr_g sq_2_6, tr_g sq_3_6, tr_h e sq_4_4, tr_g sq_5_4, tr_g sq_6_4, tr_g sq_7_3, tr_g sq_8_6, tr_g sq_9_6, tr_g sq_10_13, tr_g sq_11_6, tr_g sq_12_11, tr_g sq_13_31, tr_g sq_14_10, tr_g sq_15_8)) : wpX_deliver post (7, tr_g sq_1_6, tr_g sq_2_6, tr_g sq_3_6, tr_h e sq_4_4, tr_g sq_5_4, tr_g sq_6_4, tr_g sq_7_3, tr_g sq_8_6, tr_g sq_9_6, tr_g sq_10_12, tr_g sq_11_6, tr_g sq_12_10, tr_g sq_13_30, tr_g sq_14_9, tr_g sq_15_6) 0 2 := tr_de_ok ⟨(0, (7, sq_1_6, sq_2_6, sq_3_6, sq_4_4, sq_5_4, sq_6_4, sq_7_3, sq_8_6, sq_9_6, sq_10_13, sq_11_6, sq_12_11, sq_13_31, sq_14_10, sq_15_8)), tr_ck_ok sp_77_v, H⟩
theorem sp_78_v : tr_ck (tr_de (7, sq_1_6, sq_2_6, sq_3_6, sq_4_4, sq_5_4, sq_6_4, sq_7_3, sq_8_6, sq_9_6, sq_10_13, sq_11_6, sq_12_11, sq_13_31, sq_14_10, sq_15_8) 0 2) 0 (7, sq_1_6, sq_2_6, sq_3_6, sq_4_4, sq_5_4, sq_6_4, sq_7_3, sq_8_6, sq_9_6, sq_10_14, sq_11_7, sq_12_12, sq_13_32, sq_14_11, sq_15_10) = true := by decide +kernel
theorem sp_78 {e : Int32 → Int32} {post : Int32 → St2 → Prop} (H : post 0 (7, tr_g sq_1_6, tr_g sq_2_6, tr_g sq_3_6, tr_h e sq_4_4, tr_g sq_5_4, tr_g sq_6_4, tr_g sq_7_3, tr_g sq_8_6, tr_g sq_9_6, tr_g sq_10_14, tr_g sq_11_7, tr_g sq_12_12, tr_g sq_13_32, tr_g sq_14_11, tr_g sq_15_10)) : wpX_deliver post (7, tr_g sq_1_6, tr_g sq_2_6, tr_g sq_3_6, tr_h e sq_4_4, tr_g sq_5_4, tr_g sq_6_4, tr_g sq_7_3, tr_g sq_8_6, tr_g sq_9_6, tr_g sq_10_13, tr_g sq_11_6, tr_g sq_12_11, tr_g sq_13_31, tr_g sq_14_10, tr_g sq_15_8) 0 2 := tr_de_ok ⟨(0, (7, sq_1_6, sq_2_6, sq_3_6, sq_4_4, sq_5_4, sq_6_4, sq_7_3, sq_8_6, sq_9_6, sq_10_14, sq_11_7, sq_12_12, sq_13_32, sq_14_11, sq_15_10)), tr_ck_ok sp_78_v, H⟩
theorem sp_79_v : tr_ck (tr_de (7, sq_1_6, sq_2_6, sq_3_6, sq_4_4, sq_5_4, sq_6_4, sq_7_3, sq_8_6, sq_9_6, sq_10_14, sq_11_7, sq_12_12, sq_13_32, sq_14_11, sq_15_10) 0 2) 0 (7, sq_1_6, sq_2_6, sq_3_6, sq_4_4, sq_5_4, sq_6_4, sq_7_3, sq_8_6, sq_9_6, sq_10_15, sq_11_7, sq_12_12, sq_13_33, sq_14_11, sq_15_8) = true := by decide +kernel
theorem sp_79 {e : Int32 → Int32} {post : Int32 → St2 → Prop} (H : post 0 (7, tr_g sq_1_6, tr_g sq_2_6, tr_g sq_3_6, tr_h e sq_4_4, tr_g sq_5_4, tr_g sq_6_4, tr_g sq_7_3, tr_g sq_8_6, tr_g sq_9_6, tr_g sq_10_15, tr_g sq_11_7, tr_g sq_12_12, tr_g sq_13_33, tr_g sq_14_11, tr_g sq_15_8)) : wpX_deliver post (7, tr_g sq_1_6, tr_g sq_2_6, tr_g sq_3_6, tr_h e sq_4_4, tr_g sq_5_4, tr_g sq_6_4, tr_g sq_7_3, tr_g sq_8_6, tr_g sq_9_6, tr_g sq_10_14, tr_g sq_11_7, tr_g sq_12_12, tr_g sq_13_32, tr_g sq_14_11, tr_g sq_15_10) 0 2 := tr_de_ok ⟨(0, (7, sq_1_6, sq_2_6, sq_3_6, sq_4_4, sq_5_4, sq_6_4, sq_7_3, sq_8_6, sq_9_6, sq_10_15, sq_11_7, sq_12_12, sq_13_33, sq_14_11, sq_15_8)), tr_ck_ok sp_79_v, H⟩
theorem sp_80_v : tr_al sq_4_4 sq_12_12 sq_13_33 sq_15_8 0 2 = some 1 := by decide +kernel
theorem sp_80 {e : Int32 → Int32} {post : Int32 → Prop} (H : post 1) : wpX_alike post (7, tr_g sq_1_6, tr_g sq_2_6, tr_g sq_3_6, tr_h e sq_4_4, tr_g sq_5_4, tr_g sq_6_4, tr_g sq_7_3, tr_g sq_8_6, tr_g sq_9_6, tr_g sq_10_15, tr_g sq_11_7, tr_g sq_12_12, tr_g sq_13_33, tr_g sq_14_11, tr_g sq_15_8) 0 2 := tr_al_ok ⟨1, sp_80_v, H⟩
theorem sp_81_v : tr_ro sq_15_8 2 = some 3 := by decide +kernel
theorem sp_81 {e : Int32 → Int32} {post : Int32 → Prop} (H : post 3) : wpX_length post (7, tr_g sq_1_6, tr_g sq_2_6, tr_g sq_3_6, tr_h e sq_4_4, tr_g sq_5_4, tr_g sq_6_4, tr_g sq_7_3, tr_g sq_8_6, tr_g sq_9_6, tr_g sq_10_15, tr_g sq_11_7, tr_g sq_12_12, tr_g sq_13_33, tr_g sq_14_11, tr_g sq_15_8) 2 := tr_ln_ok ⟨3, sp_81_v, H⟩
theorem sp_82_v : tr_lt sq_4_4 sq_12_12 sq_13_33 sq_15_8 2 0 = some 4 := by decide +kernel
theorem sp_82 {e : Int32 → Int32} {post : Int32 → Prop} (H : post (e 4)) : wpX_letter post (7, tr_g sq_1_6, tr_g sq_2_6, tr_g sq_3_6, tr_h e sq_4_4, tr_g sq_5_4, tr_g sq_6_4, tr_g sq_7_3, tr_g sq_8_6, tr_g sq_9_6, tr_g sq_10_15, tr_g sq_11_7, tr_g sq_12_12, tr_g sq_13_33, tr_g sq_14_11, tr_g sq_15_8) 2 0 := tr_lt_ok ⟨4, sp_82_v, H⟩
theorem sp_83_v : tr_ck (tr_ii (7, sq_1_6, sq_2_6, sq_3_6, sq_4_4, sq_5_4, sq_6_4, sq_7_3, sq_8_6, sq_9_6, sq_10_15, sq_11_7, sq_12_12, sq_13_33, sq_14_11, sq_15_8) 1 2 1) 3 (8, sq_1_7, sq_2_7, sq_3_7, sq_4_5, sq_5_5, sq_6_5, sq_7_3, sq_8_7, sq_9_7, sq_10_16, sq_11_8, sq_12_13, sq_13_34, sq_14_12, sq_15_11) = true := by decide +kernel
theorem sp_83 {e : Int32 → Int32} {post : Int32 → St2 → Prop} (H : post 3 (8, tr_g sq_1_7, tr_g sq_2_7, tr_g sq_3_7, tr_h e sq_4_5, tr_g sq_5_5, tr_g sq_6_5, tr_g sq_7_3, tr_g sq_8_7, tr_g sq_9_7, tr_g sq_10_16, tr_g sq_11_8, tr_g sq_12_13, tr_g sq_13_34, tr_g sq_14_12, tr_g sq_15_11)) : wpX_insert post (7, tr_g sq_1_6, tr_g sq_2_6, tr_g sq_3_6, tr_h e sq_4_4, tr_g sq_5_4, tr_g sq_6_4, tr_g sq_7_3, tr_g sq_8_6, tr_g sq_9_6, tr_g sq_10_15, tr_g sq_11_7, tr_g sq_12_12, tr_g sq_13_33, tr_g sq_14_11, tr_g sq_15_8) 1 2 (e 1) := tr_ii_ok ⟨(3, (8, sq_1_7, sq_2_7, sq_3_7, sq_4_5, sq_5_5, sq_6_5, sq_7_3, sq_8_7, sq_9_7, sq_10_16, sq_11_8, sq_12_13, sq_13_34, sq_14_12, sq_15_11)), tr_ck_ok sp_83_v, H⟩
theorem sp_84_v : tr_ck (tr_ii (8, sq_1_7, sq_2_7, sq_3_7, sq_4_5, sq_5_5, sq_6_5, sq_7_3, sq_8_7, sq_9_7, sq_10_16, sq_11_8, sq_12_13, sq_13_34, sq_14_12, sq_15_11) 2 0 3) 4 (9, sq_1_8, sq_2_8, sq_3_8, sq_4_6, sq_5_6, sq_6_6, sq_7_3, sq_8_8, sq_9_8, sq_10_17, sq_11_9, sq_12_14, sq_13_35, sq_14_13, sq_15_12) = true := by decide +kernel
theorem sp_84 {e : Int32 → Int32} {post : Int32 → St2 → Prop} (H : post 4 (9, tr_g sq_1_8, tr_g sq_2_8, tr_g sq_3_8, tr_h e sq_4_6, tr_g sq_5_6, tr_g sq_6_6, tr_g sq_7_3, tr_g sq_8_8, tr_g sq_9_8, tr_g sq_10_17, tr_g sq_11_9, tr_g sq_12_14, tr_g sq_13_35, tr_g sq_14_13, tr_g sq_15_12)) : wpX_insert post (8, tr_g sq_1_7, tr_g sq_2_7, tr_g sq_3_7, tr_h e sq_4_5, tr_g sq_5_5, tr_g sq_6_5, tr_g sq_7_3, tr_g sq_8_7, tr_g sq_9_7, tr_g sq_10_16, tr_g sq_11_8, tr_g sq_12_13, tr_g sq_13_34, tr_g sq_14_12, tr_g sq_15_11) 2 0 (e 3) := tr_ii_ok ⟨(4, (9, sq_1_8, sq_2_8, sq_3_8, sq_4_6, sq_5_6, sq_6_6, sq_7_3, sq_8_8, sq_9_8, sq_10_17, sq_11_9, sq_12_14, sq_13_35, sq_14_13, sq_15_12)), tr_ck_ok sp_84_v, H⟩
theorem sp_85_v : tr_ck (tr_sy (9, sq_1_8, sq_2_8, sq_3_8, sq_4_6, sq_5_6, sq_6_6, sq_7_3, sq_8_8, sq_9_8, sq_10_17, sq_11_9, sq_12_14, sq_13_35, sq_14_13, sq_15_12) 1 2) 0 (9, sq_1_8, sq_2_8, sq_3_8, sq_4_6, sq_5_6, sq_6_6, sq_7_3, sq_8_8, sq_9_8, sq_10_18, sq_11_9, sq_12_15, sq_13_36, sq_14_14, sq_15_13) = true := by decide +kernel
theorem sp_85 {e : Int32 → Int32} {post : Int32 → St2 → Prop} (H : post 0 (9, tr_g sq_1_8, tr_g sq_2_8, tr_g sq_3_8, tr_h e sq_4_6, tr_g sq_5_6, tr_g sq_6_6, tr_g sq_7_3, tr_g sq_8_8, tr_g sq_9_8, tr_g sq_10_18, tr_g sq_11_9, tr_g sq_12_15, tr_g sq_13_36, tr_g sq_14_14, tr_g sq_15_13)) : wpX_sync post (9, tr_g sq_1_8, tr_g sq_2_8, tr_g sq_3_8, tr_h e sq_4_6, tr_g sq_5_6, tr_g sq_6_6, tr_g sq_7_3, tr_g sq_8_8, tr_g sq_9_8, tr_g sq_10_17, tr_g sq_11_9, tr_g sq_12_14, tr_g sq_13_35, tr_g sq_14_13, tr_g sq_15_12) 1 2 := tr_sy_ok ⟨(0, (9, sq_1_8, sq_2_8, sq_3_8, sq_4_6, sq_5_6, sq_6_6, sq_7_3, sq_8_8, sq_9_8, sq_10_18, sq_11_9, sq_12_15, sq_13_36, sq_14_14, sq_15_13)), tr_ck_ok sp_85_v, H⟩
theorem sp_86_v : tr_ck (tr_sy (9, sq_1_8, sq_2_8, sq_3_8, sq_4_6, sq_5_6, sq_6_6, sq_7_3, sq_8_8, sq_9_8, sq_10_18, sq_11_9, sq_12_15, sq_13_36, sq_14_14, sq_15_13) 2 1) 0 (9, sq_1_8, sq_2_8, sq_3_8, sq_4_6, sq_5_6, sq_6_6, sq_7_3, sq_8_8, sq_9_8, sq_10_19, sq_11_10, sq_12_16, sq_13_37, sq_14_15, sq_15_14) = true := by decide +kernel
theorem sp_86 {e : Int32 → Int32} {post : Int32 → St2 → Prop} (H : post 0 (9, tr_g sq_1_8, tr_g sq_2_8, tr_g sq_3_8, tr_h e sq_4_6, tr_g sq_5_6, tr_g sq_6_6, tr_g sq_7_3, tr_g sq_8_8, tr_g sq_9_8, tr_g sq_10_19, tr_g sq_11_10, tr_g sq_12_16, tr_g sq_13_37, tr_g sq_14_15, tr_g sq_15_14)) : wpX_sync post (9, tr_g sq_1_8, tr_g sq_2_8, tr_g sq_3_8, tr_h e sq_4_6, tr_g sq_5_6, tr_g sq_6_6, tr_g sq_7_3, tr_g sq_8_8, tr_g sq_9_8, tr_g sq_10_18, tr_g sq_11_9, tr_g sq_12_15, tr_g sq_13_36, tr_g sq_14_14, tr_g sq_15_13) 2 1 := tr_sy_ok ⟨(0, (9, sq_1_8, sq_2_8, sq_3_8, sq_4_6, sq_5_6, sq_6_6, sq_7_3, sq_8_8, sq_9_8, sq_10_19, sq_11_10, sq_12_16, sq_13_37, sq_14_15, sq_15_14)), tr_ck_ok sp_86_v, H⟩
theorem sp_87_v : tr_ck (tr_sy (9, sq_1_8, sq_2_8, sq_3_8, sq_4_6, sq_5_6, sq_6_6, sq_7_3, sq_8_8, sq_9_8, sq_10_19, sq_11_10, sq_12_16, sq_13_37, sq_14_15, sq_15_14) 1 0) 0 (9, sq_1_8, sq_2_8, sq_3_8, sq_4_6, sq_5_6, sq_6_6, sq_7_3, sq_8_8, sq_9_8, sq_10_20, sq_11_11, sq_12_17, sq_13_38, sq_14_16, sq_15_15) = true := by decide +kernel
theorem sp_87 {e : Int32 → Int32} {post : Int32 → St2 → Prop} (H : post 0 (9, tr_g sq_1_8, tr_g sq_2_8, tr_g sq_3_8, tr_h e sq_4_6, tr_g sq_5_6, tr_g sq_6_6, tr_g sq_7_3, tr_g sq_8_8, tr_g sq_9_8, tr_g sq_10_20, tr_g sq_11_11, tr_g sq_12_17, tr_g sq_13_38, tr_g sq_14_16, tr_g sq_15_15)) : wpX_sync post (9, tr_g sq_1_8, tr_g sq_2_8, tr_g sq_3_8, tr_h e sq_4_6, tr_g sq_5_6, tr_g sq_6_6, tr_g sq_7_3, tr_g sq_8_8, tr_g sq_9_8, tr_g sq_10_19, tr_g sq_11_10, tr_g sq_12_16, tr_g sq_13_37, tr_g sq_14_15, tr_g sq_15_14) 1 0 := tr_sy_ok ⟨(0, (9, sq_1_8, sq_2_8, sq_3_8, sq_4_6, sq_5_6, sq_6_6, sq_7_3, sq_8_8, sq_9_8, sq_10_20, sq_11_11, sq_12_17, sq_13_38, sq_14_16, sq_15_15)), tr_ck_ok sp_87_v, H⟩
theorem sp_88_v : tr_al sq_4_6 sq_12_17 sq_13_38 sq_15_15 0 1 = some 1 := by decide +kernel
theorem sp_88 {e : Int32 → Int32} {post : Int32 → Prop} (H : post 1) : wpX_alike post (9, tr_g sq_1_8, tr_g sq_2_8, tr_g sq_3_8, tr_h e sq_4_6, tr_g sq_5_6, tr_g sq_6_6, tr_g sq_7_3, tr_g sq_8_8, tr_g sq_9_8, tr_g sq_10_20, tr_g sq_11_11, tr_g sq_12_17, tr_g sq_13_38, tr_g sq_14_16, tr_g sq_15_15) 0 1 := tr_al_ok ⟨1, sp_88_v, H⟩
theorem sp_89_v : tr_al sq_4_6 sq_12_17 sq_13_38 sq_15_15 1 2 = some 1 := by decide +kernel
theorem sp_89 {e : Int32 → Int32} {post : Int32 → Prop} (H : post 1) : wpX_alike post (9, tr_g sq_1_8, tr_g sq_2_8, tr_g sq_3_8, tr_h e sq_4_6, tr_g sq_5_6, tr_g sq_6_6, tr_g sq_7_3, tr_g sq_8_8, tr_g sq_9_8, tr_g sq_10_20, tr_g sq_11_11, tr_g sq_12_17, tr_g sq_13_38, tr_g sq_14_16, tr_g sq_15_15) 1 2 := tr_al_ok ⟨1, sp_89_v, H⟩
theorem sp_90_v : tr_lt sq_4_6 sq_12_17 sq_13_38 sq_15_15 0 0 = some 3 := by decide +kernel
theorem sp_90 {e : Int32 → Int32} {post : Int32 → Prop} (H : post (e 3)) : wpX_letter post (9, tr_g sq_1_8, tr_g sq_2_8, tr_g sq_3_8, tr_h e sq_4_6, tr_g sq_5_6, tr_g sq_6_6, tr_g sq_7_3, tr_g sq_8_8, tr_g sq_9_8, tr_g sq_10_20, tr_g sq_11_11, tr_g sq_12_17, tr_g sq_13_38, tr_g sq_14_16, tr_g sq_15_15) 0 0 := tr_lt_ok ⟨3, sp_90_v, H⟩
theorem sp_91_v : tr_ro sq_14_16 1 = some 7 := by decide +kernel
theorem sp_91 {e : Int32 → Int32} {post : Int32 → Prop} (H : post 7) : wpX_row post (9, tr_g sq_1_8, tr_g sq_2_8, tr_g sq_3_8, tr_h e sq_4_6, tr_g sq_5_6, tr_g sq_6_6, tr_g sq_7_3, tr_g sq_8_8, tr_g sq_9_8, tr_g sq_10_20, tr_g sq_11_11, tr_g sq_12_17, tr_g sq_13_38, tr_g sq_14_16, tr_g sq_15_15) 1 := tr_ro_ok ⟨7, sp_91_v, H⟩
theorem sp_92_v : tr_ro sq_15_15 1 = some 5 := by decide +kernel
theorem sp_92 {e : Int32 → Int32} {post : Int32 → Prop} (H : post 5) : wpX_length post (9, tr_g sq_1_8, tr_g sq_2_8, tr_g sq_3_8, tr_h e sq_4_6, tr_g sq_5_6, tr_g sq_6_6, tr_g sq_7_3, tr_g sq_8_8, tr_g sq_9_8, tr_g sq_10_20, tr_g sq_11_11, tr_g sq_12_17, tr_g sq_13_38, tr_g sq_14_16, tr_g sq_15_15) 1 := tr_ln_ok ⟨5, sp_92_v, H⟩
theorem sp_93_v : tr_ko sq_10_20 0 1 = some 3 := by decide +kernel
theorem sp_93 {e : Int32 → Int32} {post : Int32 → Prop} (H : post 3) : wpX_known post (9, tr_g sq_1_8, tr_g sq_2_8, tr_g sq_3_8, tr_h e sq_4_6, tr_g sq_5_6, tr_g sq_6_6, tr_g sq_7_3, tr_g sq_8_8, tr_g sq_9_8, tr_g sq_10_20, tr_g sq_11_11, tr_g sq_12_17, tr_g sq_13_38, tr_g sq_14_16, tr_g sq_15_15) 0 1 := tr_ko_ok ⟨3, sp_93_v, H⟩
theorem sp_94_v : tr_ko sq_10_20 1 2 = some 2 := by decide +kernel
theorem sp_94 {e : Int32 → Int32} {post : Int32 → Prop} (H : post 2) : wpX_known post (9, tr_g sq_1_8, tr_g sq_2_8, tr_g sq_3_8, tr_h e sq_4_6, tr_g sq_5_6, tr_g sq_6_6, tr_g sq_7_3, tr_g sq_8_8, tr_g sq_9_8, tr_g sq_10_20, tr_g sq_11_11, tr_g sq_12_17, tr_g sq_13_38, tr_g sq_14_16, tr_g sq_15_15) 1 2 := tr_ko_ok ⟨2, sp_94_v, H⟩
end
section
theorem sp_95_v : tr_ck (tr_dl (6, sq_1_5, sq_2_5, sq_3_5, sq_4_4, sq_5_4, sq_6_4, sq_7_0, sq_8_5, sq_9_5, sq_10_11, sq_11_6, sq_12_10, sq_13_11, sq_14_9, sq_15_9) 0 3) 3 (7, sq_1_6, sq_2_6, sq_3_6, sq_4_4, sq_5_4, sq_6_4, sq_7_4, sq_8_6, sq_9_6, sq_10_12, sq_11_6, sq_12_10, sq_13_39, sq_14_9, sq_15_6) = true := by decide +kernel
theorem sp_95 {e : Int32 → Int32} {post : Int32 → St2 → Prop} (H : post 3 (7, tr_g sq_1_6, tr_g sq_2_6, tr_g sq_3_6, tr_h e sq_4_4, tr_g sq_5_4, tr_g sq_6_4, tr_g sq_7_4, tr_g sq_8_6, tr_g sq_9_6, tr_g sq_10_12, tr_g sq_11_6, tr_g sq_12_10, tr_g sq_13_39, tr_g sq_14_9, tr_g sq_15_6)) : wpX_delete post (6, tr_g sq_1_5, tr_g sq_2_5, tr_g sq_3_5, tr_h e sq_4_4, tr_g sq_5_4, tr_g sq_6_4, tr_g sq_7_0, tr_g sq_8_5, tr_g sq_9_5, tr_g sq_10_11, tr_g sq_11_6, tr_g sq_12_10, tr_g sq_13_11, tr_g sq_14_9, tr_g sq_15_9) 0 3 := tr_dl_ok ⟨(3, (7, sq_1_6, sq_2_6, sq_3_6, sq_4_4, sq_5_4, sq_6_4, sq_7_4, sq_8_6, sq_9_6, sq_10_12, sq_11_6, sq_12_10, sq_13_39, sq_14_9, sq_15_6)), tr_ck_ok sp_95_v, H⟩
theorem sp_96_v : tr_ro sq_14_9 0 = some 5 := by decide +kernel
theorem sp_96 {e : Int32 → Int32} {post : Int32 → Prop} (H : post 5) : wpX_row post (7, tr_g sq_1_6, tr_g sq_2_6, tr_g sq_3_6, tr_h e sq_4_4, tr_g sq_5_4, tr_g sq_6_4, tr_g sq_7_4, tr_g sq_8_6, tr_g sq_9_6, tr_g sq_10_12, tr_g sq_11_6, tr_g sq_12_10, tr_g sq_13_39, tr_g sq_14_9, tr_g sq_15_6) 0 := tr_ro_ok ⟨5, sp_96_v, H⟩
theorem sp_97_v : tr_ck (tr_de (7, sq_1_6, sq_2_6, sq_3_6, sq_4_4, sq_5_4, sq_6_4, sq_7_4, sq_8_6, sq_9_6, sq_10_12, sq_11_6, sq_12_10, sq_13_39, sq_14_9, sq_15_6) 0 2) 0 (7, sq_1_6, sq_2_6, sq_3_6, sq_4_4, sq_5_4, sq_6_4, sq_7_4, sq_8_6, sq_9_6, sq_10_13, sq_11_6, sq_12_11, sq_13_40, sq_14_10, sq_15_8) = true := by decide +kernel
theorem sp_97 {e : Int32 → Int32} {post : Int32 → St2 → Prop} (H : post 0 (7, tr_g sq_1_6, tr_g sq_2_6, tr_g sq_3_6, tr_h e sq_4_4, tr_g sq_5_4, tr_g sq_6_4, tr_g sq_7_4, tr_g sq_8_6, tr_g sq_9_6, tr_g sq_10_13, tr_g sq_11_6, tr_g sq_12_11, tr_g sq_13_40, tr_g sq_14_10, tr_g sq_15_8)) : wpX_deliver post (7, tr_g sq_1_6, tr_g sq_2_6, tr_g sq_3_6, tr_h e sq_4_4, tr_g sq_5_4, tr_g sq_6_4, tr_g sq_7_4, tr_g sq_8_6, tr_g sq_9_6, tr_g sq_10_12, tr_g sq_11_6, tr_g sq_12_10, tr_g sq_13_39, tr_g sq_14_9, tr_g sq_15_6) 0 2 := tr_de_ok ⟨(0, (7, sq_1_6, sq_2_6, sq_3_6, sq_4_4, sq_5_4, sq_6_4, sq_7_4, sq_8_6, sq_9_6, sq_10_13, sq_11_6, sq_12_11, sq_13_40, sq_14_10, sq_15_8)), tr_ck_ok sp_97_v, H⟩
theorem sp_98_v : tr_ck (tr_de (7, sq_1_6, sq_2_6, sq_3_6, sq_4_4, sq_5_4, sq_6_4, sq_7_4, sq_8_6, sq_9_6, sq_10_13, sq_11_6, sq_12_11, sq_13_40, sq_14_10, sq_15_8) 0 2) 0 (7, sq_1_6, sq_2_6, sq_3_6, sq_4_4, sq_5_4, sq_6_4, sq_7_4, sq_8_6, sq_9_6, sq_10_14, sq_11_7, sq_12_12, sq_13_41, sq_14_11, sq_15_10) = true := by decide +kernel
theorem sp_98 {e : Int32 → Int32} {post : Int32 → St2 → Prop} (H : post 0 (7, tr_g sq_1_6, tr_g sq_2_6, tr_g sq_3_6, tr_h e sq_4_4, tr_g sq_5_4, tr_g sq_6_4, tr_g sq_7_4, tr_g sq_8_6, tr_g sq_9_6, tr_g sq_10_14, tr_g sq_11_7, tr_g sq_12_12, tr_g sq_13_41, tr_g sq_14_11, tr_g sq_15_10)) : wpX_deliver post (7, tr_g sq_1_6, tr_g sq_2_6, tr_g sq_3_6, tr_h e sq_4_4, tr_g sq_5_4, tr_g sq_6_4, tr_g sq_7_4, tr_g sq_8_6, tr_g sq_9_6, tr_g sq_10_13, tr_g sq_11_6, tr_g sq_12_11, tr_g sq_13_40, tr_g sq_14_10, tr_g sq_15_8) 0 2 := tr_de_ok ⟨(0, (7, sq_1_6, sq_2_6, sq_3_6, sq_4_4, sq_5_4, sq_6_4, sq_7_4, sq_8_6, sq_9_6, sq_10_14, sq_11_7, sq_12_12, sq_13_41, sq_14_11, sq_15_10)), tr_ck_ok sp_98_v, H⟩
theorem sp_99_v : tr_ck (tr_de (7, sq_1_6, sq_2_6, sq_3_6, sq_4_4, sq_5_4, sq_6_4, sq_7_4, sq_8_6, sq_9_6, sq_10_14, sq_11_7, sq_12_12, sq_13_41, sq_14_11, sq_15_10) 0 2) 0 (7, sq_1_6, sq_2_6, sq_3_6, sq_4_4, sq_5_4, sq_6_4, sq_7_4, sq_8_6, sq_9_6, sq_10_15, sq_11_7, sq_12_12, sq_13_42, sq_14_11, sq_15_8) = true := by decide +kernel
theorem sp_99 {e : Int32 → Int32} {post : Int32 → St2 → Prop} (H : post 0 (7, tr_g sq_1_6, tr_g sq_2_6, tr_g sq_3_6, tr_h e sq_4_4, tr_g sq_5_4, tr_g sq_6_4, tr_g sq_7_4, tr_g sq_8_6, tr_g sq_9_6, tr_g sq_10_15, tr_g sq_11_7, tr_g sq_12_12, tr_g sq_13_42, tr_g sq_14_11, tr_g sq_15_8)) : wpX_deliver post (7, tr_g sq_1_6, tr_g sq_2_6, tr_g sq_3_6, tr_h e sq_4_4, tr_g sq_5_4, tr_g sq_6_4, tr_g sq_7_4, tr_g sq_8_6, tr_g sq_9_6, tr_g sq_10_14, tr_g sq_11_7, tr_g sq_12_12, tr_g sq_13_41, tr_g sq_14_11, tr_g sq_15_10) 0 2 := tr_de_ok ⟨(0, (7, sq_1_6, sq_2_6, sq_3_6, sq_4_4, sq_5_4, sq_6_4, sq_7_4, sq_8_6, sq_9_6, sq_10_15, sq_11_7, sq_12_12, sq_13_42, sq_14_11, sq_15_8)), tr_ck_ok sp_99_v, H⟩
theorem sp_100_v : tr_al sq_4_4 sq_12_12 sq_13_42 sq_15_8 0 2 = some 1 := by decide +kernel
theorem sp_100 {e : Int32 → Int32} {post : Int32 → Prop} (H : post 1) : wpX_alike post (7, tr_g sq_1_6, tr_g sq_2_6, tr_g sq_3_6, tr_h e sq_4_4, tr_g sq_5_4, tr_g sq_6_4, tr_g sq_7_4, tr_g sq_8_6, tr_g sq_9_6, tr_g sq_10_15, tr_g sq_11_7, tr_g sq_12_12, tr_g sq_13_42, tr_g sq_14_11, tr_g sq_15_8) 0 2 := tr_al_ok ⟨1, sp_100_v, H⟩
theorem sp_101_v : tr_ro sq_15_8 2 = some 3 := by decide +kernel
theorem sp_101 {e : Int32 → Int32} {post : Int32 → Prop} (H : post 3) : wpX_length post (7, tr_g sq_1_6, tr_g sq_2_6, tr_g sq_3_6, tr_h e sq_4_4, tr_g sq_5_4, tr_g sq_6_4, tr_g sq_7_4, tr_g sq_8_6, tr_g sq_9_6, tr_g sq_10_15, tr_g sq_11_7, tr_g sq_12_12, tr_g sq_13_42, tr_g sq_14_11, tr_g sq_15_8) 2 := tr_ln_ok ⟨3, sp_101_v, H⟩
theorem sp_102_v : tr_lt sq_4_4 sq_12_12 sq_13_42 sq_15_8 2 0 = some 4 := by decide +kernel
theorem sp_102 {e : Int32 → Int32} {post : Int32 → Prop} (H : post (e 4)) : wpX_letter post (7, tr_g sq_1_6, tr_g sq_2_6, tr_g sq_3_6, tr_h e sq_4_4, tr_g sq_5_4, tr_g sq_6_4, tr_g sq_7_4, tr_g sq_8_6, tr_g sq_9_6, tr_g sq_10_15, tr_g sq_11_7, tr_g sq_12_12, tr_g sq_13_42, tr_g sq_14_11, tr_g sq_15_8) 2 0 := tr_lt_ok ⟨4, sp_102_v, H⟩
theorem sp_103_v : tr_ck (tr_ii (7, sq_1_6, sq_2_6, sq_3_6, sq_4_4, sq_5_4, sq_6_4, sq_7_4, sq_8_6, sq_9_6, sq_10_15, sq_11_7, sq_12_12, sq_13_42, sq_14_11, sq_15_8) 1 2 1) 3 (8, sq_1_7, sq_2_7, sq_3_7, sq_4_5, sq_5_5, sq_6_5, sq_7_4, sq_8_7, sq_9_7, sq_10_16, sq_11_8, sq_12_13, sq_13_43, sq_14_12, sq_15_11) = true := by decide +kernel
theorem sp_103 {e : Int32 → Int32} {post : Int32 → St2 → Prop} (H : post 3 (8, tr_g sq_1_7, tr_g sq_2_7, tr_g sq_3_7, tr_h e sq_4_5, tr_g sq_5_5, tr_g sq_6_5, tr_g sq_7_4, tr_g sq_8_7, tr_g sq_9_7, tr_g sq_10_16, tr_g sq_11_8, tr_g sq_12_13, tr_g sq_13_43, tr_g sq_14_12, tr_g sq_15_11)) : wpX_insert post (7, tr_g sq_1_6, tr_g sq_2_6, tr_g sq_3_6, tr_h e sq_4_4, tr_g sq_5_4, tr_g sq_6_4, tr_g sq_7_4, tr_g sq_8_6, tr_g sq_9_6, tr_g sq_10_15, tr_g sq_11_7, tr_g sq_12_12, tr_g sq_13_42, tr_g sq_14_11, tr_g sq_15_8) 1 2 (e 1) := tr_ii_ok ⟨(3, (8, sq_1_7, sq_2_7, sq_3_7, sq_4_5, sq_5_5, sq_6_5, sq_7_4, sq_8_7, sq_9_7, sq_10_16, sq_11_8, sq_12_13, sq_13_43, sq_14_12, sq_15_11)), tr_ck_ok sp_103_v, H⟩
theorem sp_104_v : tr_ck (tr_ii (8, sq_1_7, sq_2_7, sq_3_7, sq_4_5, sq_5_5, sq_6_5, sq_7_4, sq_8_7, sq_9_7, sq_10_16, sq_11_8, sq_12_13, sq_13_43, sq_14_12, sq_15_11) 2 0 3) 4 (9, sq_1_8, sq_2_8, sq_3_8, sq_4_6, sq_5_6, sq_6_6, sq_7_4, sq_8_8, sq_9_8, sq_10_17, sq_11_9, sq_12_14, sq_13_44, sq_14_13, sq_15_12) = true := by decide +kernel
theorem sp_104 {e : Int32 → Int32} {post : Int32 → St2 → Prop} (H : post 4 (9, tr_g sq_1_8, tr_g sq_2_8, tr_g sq_3_8, tr_h e sq_4_6, tr_g sq_5_6, tr_g sq_6_6, tr_g sq_7_4, tr_g sq_8_8, tr_g sq_9_8, tr_g sq_10_17, tr_g sq_11_9, tr_g sq_12_14, tr_g sq_13_44, tr_g sq_14_13, tr_g sq_15_12)) : wpX_insert post (8, tr_g sq_1_7, tr_g sq_2_7, tr_g sq_3_7, tr_h e sq_4_5, tr_g sq_5_5, tr_g sq_6_5, tr_g sq_7_4, tr_g sq_8_7, tr_g sq_9_7, tr_g sq_10_16, tr_g sq_11_8, tr_g sq_12_13, tr_g sq_13_43, tr_g sq_14_12, tr_g sq_15_11) 2 0 (e 3) := tr_ii_ok ⟨(4, (9, sq_1_8, sq_2_8, sq_3_8, sq_4_6, sq_5_6, sq_6_6, sq_7_4, sq_8_8, sq_9_8, sq_10_17, sq_11_9, sq_12_14, sq_13_44, sq_14_13, sq_15_12)), tr_ck_ok sp_104_v, H⟩
theorem sp_105_v : tr_ck (tr_sy (9, sq_1_8, sq_2_8, sq_3_8, sq_4_6, sq_5_6, sq_6_6, sq_7_4, sq_8_8, sq_9_8, sq_10_17, sq_11_9, sq_12_14, sq_13_44, sq_14_13, sq_15_12) 1 2) 0 (9, sq_1_8, sq_2_8, sq_3_8, sq_4_6, sq_5_6, sq_6_6, sq_7_4, sq_8_8, sq_9_8, sq_10_18, sq_11_9, sq_12_15, sq_13_45, sq_14_14, sq_15_13) = true := by decide +kernel
theorem sp_105 {e : Int32 → Int32} {post : Int32 → St2 → Prop} (H : post 0 (9, tr_g sq_1_8, tr_g sq_2_8, tr_g sq_3_8, tr_h e sq_4_6, tr_g sq_5_6, tr_g sq_6_6, tr_g sq_7_4, tr_g sq_8_8, tr_g sq_9_8, tr_g sq_10_18, tr_g sq_11_9, tr_g sq_12_15, tr_g sq_13_45, tr_g sq_14_14, tr_g sq_15_13)) : wpX_sync post (9, tr_g sq_1_8, tr_g sq_2_8, tr_g sq_3_8, tr_h e sq_4_6, tr_g sq_5_6, tr_g sq_6_6, tr_g sq_7_4, tr_g sq_8_8, tr_g sq_9_8, tr_g sq_10_17, tr_g sq_11_9, tr_g sq_12_14, tr_g sq_13_44, tr_g sq_14_13, tr_g sq_15_12) 1 2 := tr_sy_ok ⟨(0, (9, sq_1_8, sq_2_8, sq_3_8, sq_4_6, sq_5_6, sq_6_6, sq_7_4, sq_8_8, sq_9_8, sq_10_18, sq_11_9, sq_12_15, sq_13_45, sq_14_14, sq_15_13)), tr_ck_ok sp_105_v, H⟩
theorem sp_106_v : tr_ck (tr_sy (9, sq_1_8, sq_2_8, sq_3_8, sq_4_6, sq_5_6, sq_6_6, sq_7_4, sq_8_8, sq_9_8, sq_10_18, sq_11_9, sq_12_15, sq_13_45, sq_14_14, sq_15_13) 2 1) 0 (9, sq_1_8, sq_2_8, sq_3_8, sq_4_6, sq_5_6, sq_6_6, sq_7_4, sq_8_8, sq_9_8, sq_10_19, sq_11_10, sq_12_16, sq_13_46, sq_14_15, sq_15_14) = true := by decide +kernel
theorem sp_106 {e : Int32 → Int32} {post : Int32 → St2 → Prop} (H : post 0 (9, tr_g sq_1_8, tr_g sq_2_8, tr_g sq_3_8, tr_h e sq_4_6, tr_g sq_5_6, tr_g sq_6_6, tr_g sq_7_4, tr_g sq_8_8, tr_g sq_9_8, tr_g sq_10_19, tr_g sq_11_10, tr_g sq_12_16, tr_g sq_13_46, tr_g sq_14_15, tr_g sq_15_14)) : wpX_sync post (9, tr_g sq_1_8, tr_g sq_2_8, tr_g sq_3_8, tr_h e sq_4_6, tr_g sq_5_6, tr_g sq_6_6, tr_g sq_7_4, tr_g sq_8_8, tr_g sq_9_8, tr_g sq_10_18, tr_g sq_11_9, tr_g sq_12_15, tr_g sq_13_45, tr_g sq_14_14, tr_g sq_15_13) 2 1 := tr_sy_ok ⟨(0, (9, sq_1_8, sq_2_8, sq_3_8, sq_4_6, sq_5_6, sq_6_6, sq_7_4, sq_8_8, sq_9_8, sq_10_19, sq_11_10, sq_12_16, sq_13_46, sq_14_15, sq_15_14)), tr_ck_ok sp_106_v, H⟩
theorem sp_107_v : tr_ck (tr_sy (9, sq_1_8, sq_2_8, sq_3_8, sq_4_6, sq_5_6, sq_6_6, sq_7_4, sq_8_8, sq_9_8, sq_10_19, sq_11_10, sq_12_16, sq_13_46, sq_14_15, sq_15_14) 1 0) 0 (9, sq_1_8, sq_2_8, sq_3_8, sq_4_6, sq_5_6, sq_6_6, sq_7_4, sq_8_8, sq_9_8, sq_10_20, sq_11_11, sq_12_17, sq_13_47, sq_14_16, sq_15_15) = true := by decide +kernel
theorem sp_107 {e : Int32 → Int32} {post : Int32 → St2 → Prop} (H : post 0 (9, tr_g sq_1_8, tr_g sq_2_8, tr_g sq_3_8, tr_h e sq_4_6, tr_g sq_5_6, tr_g sq_6_6, tr_g sq_7_4, tr_g sq_8_8, tr_g sq_9_8, tr_g sq_10_20, tr_g sq_11_11, tr_g sq_12_17, tr_g sq_13_47, tr_g sq_14_16, tr_g sq_15_15)) : wpX_sync post (9, tr_g sq_1_8, tr_g sq_2_8, tr_g sq_3_8, tr_h e sq_4_6, tr_g sq_5_6, tr_g sq_6_6, tr_g sq_7_4, tr_g sq_8_8, tr_g sq_9_8, tr_g sq_10_19, tr_g sq_11_10, tr_g sq_12_16, tr_g sq_13_46, tr_g sq_14_15, tr_g sq_15_14) 1 0 := tr_sy_ok ⟨(0, (9, sq_1_8, sq_2_8, sq_3_8, sq_4_6, sq_5_6, sq_6_6, sq_7_4, sq_8_8, sq_9_8, sq_10_20, sq_11_11, sq_12_17, sq_13_47, sq_14_16, sq_15_15)), tr_ck_ok sp_107_v, H⟩
theorem sp_108_v : tr_al sq_4_6 sq_12_17 sq_13_47 sq_15_15 0 1 = some 1 := by decide +kernel
theorem sp_108 {e : Int32 → Int32} {post : Int32 → Prop} (H : post 1) : wpX_alike post (9, tr_g sq_1_8, tr_g sq_2_8, tr_g sq_3_8, tr_h e sq_4_6, tr_g sq_5_6, tr_g sq_6_6, tr_g sq_7_4, tr_g sq_8_8, tr_g sq_9_8, tr_g sq_10_20, tr_g sq_11_11, tr_g sq_12_17, tr_g sq_13_47, tr_g sq_14_16, tr_g sq_15_15) 0 1 := tr_al_ok ⟨1, sp_108_v, H⟩
theorem sp_109_v : tr_al sq_4_6 sq_12_17 sq_13_47 sq_15_15 1 2 = some 1 := by decide +kernel
theorem sp_109 {e : Int32 → Int32} {post : Int32 → Prop} (H : post 1) : wpX_alike post (9, tr_g sq_1_8, tr_g sq_2_8, tr_g sq_3_8, tr_h e sq_4_6, tr_g sq_5_6, tr_g sq_6_6, tr_g sq_7_4, tr_g sq_8_8, tr_g sq_9_8, tr_g sq_10_20, tr_g sq_11_11, tr_g sq_12_17, tr_g sq_13_47, tr_g sq_14_16, tr_g sq_15_15) 1 2 := tr_al_ok ⟨1, sp_109_v, H⟩
theorem sp_110_v : tr_lt sq_4_6 sq_12_17 sq_13_47 sq_15_15 0 0 = some 3 := by decide +kernel
theorem sp_110 {e : Int32 → Int32} {post : Int32 → Prop} (H : post (e 3)) : wpX_letter post (9, tr_g sq_1_8, tr_g sq_2_8, tr_g sq_3_8, tr_h e sq_4_6, tr_g sq_5_6, tr_g sq_6_6, tr_g sq_7_4, tr_g sq_8_8, tr_g sq_9_8, tr_g sq_10_20, tr_g sq_11_11, tr_g sq_12_17, tr_g sq_13_47, tr_g sq_14_16, tr_g sq_15_15) 0 0 := tr_lt_ok ⟨3, sp_110_v, H⟩
theorem sp_111_v : tr_ro sq_14_16 1 = some 7 := by decide +kernel
theorem sp_111 {e : Int32 → Int32} {post : Int32 → Prop} (H : post 7) : wpX_row post (9, tr_g sq_1_8, tr_g sq_2_8, tr_g sq_3_8, tr_h e sq_4_6, tr_g sq_5_6, tr_g sq_6_6, tr_g sq_7_4, tr_g sq_8_8, tr_g sq_9_8, tr_g sq_10_20, tr_g sq_11_11, tr_g sq_12_17, tr_g sq_13_47, tr_g sq_14_16, tr_g sq_15_15) 1 := tr_ro_ok ⟨7, sp_111_v, H⟩
theorem sp_112_v : tr_ro sq_15_15 1 = some 5 := by decide +kernel
theorem sp_112 {e : Int32 → Int32} {post : Int32 → Prop} (H : post 5) : wpX_length post (9, tr_g sq_1_8, tr_g sq_2_8, tr_g sq_3_8, tr_h e sq_4_6, tr_g sq_5_6, tr_g sq_6_6, tr_g sq_7_4, tr_g sq_8_8, tr_g sq_9_8, tr_g sq_10_20, tr_g sq_11_11, tr_g sq_12_17, tr_g sq_13_47, tr_g sq_14_16, tr_g sq_15_15) 1 := tr_ln_ok ⟨5, sp_112_v, H⟩
theorem sp_113_v : tr_ko sq_10_20 0 1 = some 3 := by decide +kernel
theorem sp_113 {e : Int32 → Int32} {post : Int32 → Prop} (H : post 3) : wpX_known post (9, tr_g sq_1_8, tr_g sq_2_8, tr_g sq_3_8, tr_h e sq_4_6, tr_g sq_5_6, tr_g sq_6_6, tr_g sq_7_4, tr_g sq_8_8, tr_g sq_9_8, tr_g sq_10_20, tr_g sq_11_11, tr_g sq_12_17, tr_g sq_13_47, tr_g sq_14_16, tr_g sq_15_15) 0 1 := tr_ko_ok ⟨3, sp_113_v, H⟩
theorem sp_114_v : tr_ko sq_10_20 1 2 = some 2 := by decide +kernel
theorem sp_114 {e : Int32 → Int32} {post : Int32 → Prop} (H : post 2) : wpX_known post (9, tr_g sq_1_8, tr_g sq_2_8, tr_g sq_3_8, tr_h e sq_4_6, tr_g sq_5_6, tr_g sq_6_6, tr_g sq_7_4, tr_g sq_8_8, tr_g sq_9_8, tr_g sq_10_20, tr_g sq_11_11, tr_g sq_12_17, tr_g sq_13_47, tr_g sq_14_16, tr_g sq_15_15) 1 2 := tr_ko_ok ⟨2, sp_114_v, H⟩
end
section
theorem sp_115_v : tr_ck (tr_de (6, sq_1_5, sq_2_5, sq_3_5, sq_4_4, sq_5_4, sq_6_4, sq_7_0, sq_8_5, sq_9_5, sq_10_11, sq_11_6, sq_12_10, sq_13_11, sq_14_9, sq_15_9) 0 2) 0 (6, sq_1_5, sq_2_5, sq_3_5, sq_4_4, sq_5_4, sq_6_4, sq_7_0, sq_8_5, sq_9_5, sq_10_21, sq_11_6, sq_12_11, sq_13_48, sq_14_10, sq_15_16) = true := by decide +kernel
theorem sp_115 {e : Int32 → Int32} {post : Int32 → St2 → Prop} (H : post 0 (6, tr_g sq_1_5, tr_g sq_2_5, tr_g sq_3_5, tr_h e sq_4_4, tr_g sq_5_4, tr_g sq_6_4, tr_g sq_7_0, tr_g sq_8_5, tr_g sq_9_5, tr_g sq_10_21, tr_g sq_11_6, tr_g sq_12_11, tr_g sq_13_48, tr_g sq_14_10, tr_g sq_15_16)) : wpX_deliver post (6, tr_g sq_1_5, tr_g sq_2_5, tr_g sq_3_5, tr_h e sq_4_4, tr_g sq_5_4, tr_g sq_6_4, tr_g sq_7_0, tr_g sq_8_5, tr_g sq_9_5, tr_g sq_10_11, tr_g sq_11_6, tr_g sq_12_10, tr_g sq_13_11, tr_g sq_14_9, tr_g sq_15_9) 0 2 := tr_de_ok ⟨(0, (6, sq_1_5, sq_2_5, sq_3_5, sq_4_4, sq_5_4, sq_6_4, sq_7_0, sq_8_5, sq_9_5, sq_10_21, sq_11_6, sq_12_11, sq_13_48, sq_14_10, sq_15_16)), tr_ck_ok sp_115_v, H⟩
theorem sp_116_v : tr_ck (tr_de (6, sq_1_5, sq_2_5, sq_3_5, sq_4_4, sq_5_4, sq_6_4, sq_7_0, sq_8_5, sq_9_5, sq_10_21, sq_11_6, sq_12_11, sq_13_48, sq_14_10, sq_15_16) 0 2) 0 (6, sq_1_5, sq_2_5, sq_3_5, sq_4_4, sq_5_4, sq_6_4, sq_7_0, sq_8_5, sq_9_5, sq_10_22, sq_11_7, sq_12_12, sq_13_49, sq_14_11, sq_15_17) = true := by decide +kernel
theorem sp_116 {e : Int32 → Int32} {post : Int32 → St2 → Prop} (H : post 0 (6, tr_g sq_1_5, tr_g sq_2_5, tr_g sq_3_5, tr_h e sq_4_4, tr_g sq_5_4, tr_g sq_6_4, tr_g sq_7_0, tr_g sq_8_5, tr_g sq_9_5, tr_g sq_10_22, tr_g sq_11_7, tr_g sq_12_12, tr_g sq_13_49, tr_g sq_14_11, tr_g sq_15_17)) : wpX_deliver post (6, tr_g sq_1_5, tr_g sq_2_5, tr_g sq_3_5, tr_h e sq_4_4, tr_g sq_5_4, tr_g sq_6_4, tr_g sq_7_0, tr_g sq_8_5, tr_g sq_9_5, tr_g sq_10_21, tr_g sq_11_6, tr_g sq_12_11, tr_g sq_13_48, tr_g sq_14_10, tr_g sq_15_16) 0 2 := tr_de_ok ⟨(0, (6, sq_1_5, sq_2_5, sq_3_5, sq_4_4, sq_5_4, sq_6_4, sq_7_0, sq_8_5, sq_9_5, sq_10_22, sq_11_7, sq_12_12, sq_13_49, sq_14_11, sq_15_17)), tr_ck_ok sp_116_v, H⟩
theorem sp_117_v : tr_ck (tr_de (6, sq_1_5, sq_2_5, sq_3_5, sq_4_4, sq_5_4, sq_6_4, sq_7_0, sq_8_5, sq_9_5, sq_10_22, sq_11_7, sq_12_12, sq_13_49, sq_14_11, sq_15_17) 0 2) (-1) (6, sq_1_5, sq_2_5, sq_3_5, sq_4_4, sq_5_4, sq_6_4, sq_7_0, sq_8_5, sq_9_5, sq_10_22, sq_11_7, sq_12_12, sq_13_49, sq_14_11, sq_15_17) = true := by decide +kernel
theorem sp_117 {e : Int32 → Int32} {post : Int32 → St2 → Prop} (H : post (-1) (6, tr_g sq_1_5, tr_g sq_2_5, tr_g sq_3_5, tr_h e sq_4_4, tr_g sq_5_4, tr_g sq_6_4, tr_g sq_7_0, tr_g sq_8_5, tr_g sq_9_5, tr_g sq_10_22, tr_g sq_11_7, tr_g sq_12_12, tr_g sq_13_49, tr_g sq_14_11, tr_g sq_15_17)) : wpX_deliver post (6, tr_g sq_1_5, tr_g sq_2_5, tr_g sq_3_5, tr_h e sq_4_4, tr_g sq_5_4, tr_g sq_6_4, tr_g sq_7_0, tr_g sq_8_5, tr_g sq_9_5, tr_g sq_10_22, tr_g sq_11_7, tr_g sq_12_12, tr_g sq_13_49, tr_g sq_14_11, tr_g sq_15_17) 0 2 := tr_de_ok ⟨((-1), (6, sq_1_5, sq_2_5, sq_3_5, sq_4_4, sq_5_4, sq_6_4, sq_7_0, sq_8_5, sq_9_5, sq_10_22, sq_11_7, sq_12_12, sq_13_49, sq_14_11, sq_15_17)), tr_ck_ok sp_117_v, H⟩
theorem sp_118_v : tr_al sq_4_4 sq_12_12 sq_13_49 sq_15_17 0 2 = some 1 := by decide +kernel
theorem sp_118 {e : Int32 → Int32} {post : Int32 → Prop} (H : post 1) : wpX_alike post (6, tr_g sq_1_5, tr_g sq_2_5, tr_g sq_3_5, tr_h e sq_4_4, tr_g sq_5_4, tr_g sq_6_4, tr_g sq_7_0, tr_g sq_8_5, tr_g sq_9_5, tr_g sq_10_22, tr_g sq_11_7, tr_g sq_12_12, tr_g sq_13_49, tr_g sq_14_11, tr_g sq_15_17) 0 2 := tr_al_ok ⟨1, sp_118_v, H⟩
theorem sp_119_v : tr_ro sq_15_17 2 = some 4 := by decide +kernel
theorem sp_119 {e : Int32 → Int32} {post : Int32 → Prop} (H : post 4) : wpX_length post (6, tr_g sq_1_5, tr_g sq_2_5, tr_g sq_3_5, tr_h e sq_4_4, tr_g sq_5_4, tr_g sq_6_4, tr_g sq_7_0, tr_g sq_8_5, tr_g sq_9_5, tr_g sq_10_22, tr_g sq_11_7, tr_g sq_12_12, tr_g sq_13_49, tr_g sq_14_11, tr_g sq_15_17) 2 := tr_ln_ok ⟨4, sp_119_v, H⟩
theorem sp_120_v : tr_lt sq_4_4 sq_12_12 sq_13_49 sq_15_17 2 0 = some 4 := by decide +kernel
theorem sp_120 {e : Int32 → Int32} {post : Int32 → Prop} (H : post (e 4)) : wpX_letter post (6, tr_g sq_1_5, tr_g sq_2_5, tr_g sq_3_5, tr_h e sq_4_4, tr_g sq_5_4, tr_g sq_6_4, tr_g sq_7_0, tr_g sq_8_5, tr_g sq_9_5, tr_g sq_10_22, tr_g sq_11_7, tr_g sq_12_12, tr_g sq_13_49, tr_g sq_14_11, tr_g sq_15_17) 2 0 := tr_lt_ok ⟨4, sp_120_v, H⟩
theorem sp_121_v : tr_ck (tr_ii (6, sq_1_5, sq_2_5, sq_3_5, sq_4_4, sq_5_4, sq_6_4, sq_7_0, sq_8_5, sq_9_5, sq_10_22, sq_11_7, sq_12_12, sq_13_49, sq_14_11, sq_15_17) 1 2 1) 3 (7, sq_1_9, sq_2_9, sq_3_9, sq_4_7, sq_5_7, sq_6_7, sq_7_0, sq_8_9, sq_9_9, sq_10_23, sq_11_8, sq_12_18, sq_13_50, sq_14_12, sq_15_18) = true := by decide +kernel
theorem sp_121 {e : Int32 → Int32} {post : Int32 → St2 → Prop} (H : post 3 (7, tr_g sq_1_9, tr_g sq_2_9, tr_g sq_3_9, tr_h e sq_4_7, tr_g sq_5_7, tr_g sq_6_7, tr_g sq_7_0, tr_g sq_8_9, tr_g sq_9_9, tr_g sq_10_23, tr_g sq_11_8, tr_g sq_12_18, tr_g sq_13_50, tr_g sq_14_12, tr_g sq_15_18)) : wpX_insert post (6, tr_g sq_1_5, tr_g sq_2_5, tr_g sq_3_5, tr_h e sq_4_4, tr_g sq_5_4, tr_g sq_6_4, tr_g sq_7_0, tr_g sq_8_5, tr_g sq_9_5, tr_g sq_10_22, tr_g sq_11_7, tr_g sq_12_12, tr_g sq_13_49, tr_g sq_14_11, tr_g sq_15_17) 1 2 (e 1) := tr_ii_ok ⟨(3, (7, sq_1_9, sq_2_9, sq_3_9, sq_4_7, sq_5_7, sq_6_7, sq_7_0, sq_8_9, sq_9_9, sq_10_23, sq_11_8, sq_12_18, sq_13_50, sq_14_12, sq_15_18)), tr_ck_ok sp_121_v, H⟩
theorem sp_122_v : tr_ck (tr_ii (7, sq_1_9, sq_2_9, sq_3_9, sq_4_7, sq_5_7, sq_6_7, sq_7_0, sq_8_9, sq_9_9, sq_10_23, sq_11_8, sq_12_18, sq_13_50, sq_14_12, sq_15_18) 2 0 3) 5 (8, sq_1_10, sq_2_10, sq_3_10, sq_4_8, sq_5_8, sq_6_8, sq_7_0, sq_8_10, sq_9_10, sq_10_24, sq_11_9, sq_12_19, sq_13_51, sq_14_13, sq_15_19) = true := by decide +kernel
theorem sp_122 {e : Int32 → Int32} {post : Int32 → St2 → Prop} (H : post 5 (8, tr_g sq_1_10, tr_g sq_2_10, tr_g sq_3_10, tr_h e sq_4_8, tr_g sq_5_8, tr_g sq_6_8, tr_g sq_7_0, tr_g sq_8_10, tr_g sq_9_10, tr_g sq_10_24, tr_g sq_11_9, tr_g sq_12_19, tr_g sq_13_51, tr_g sq_14_13, tr_g sq_15_19)) : wpX_insert post (7, tr_g sq_1_9, tr_g sq_2_9, tr_g sq_3_9, tr_h e sq_4_7, tr_g sq_5_7, tr_g sq_6_7, tr_g sq_7_0, tr_g sq_8_9, tr_g sq_9_9, tr_g sq_10_23, tr_g sq_11_8, tr_g sq_12_18, tr_g sq_13_50, tr_g sq_14_12, tr_g sq_15_18) 2 0 (e 3) := tr_ii_ok ⟨(5, (8, sq_1_10, sq_2_10, sq_3_10, sq_4_8, sq_5_8, sq_6_8, sq_7_0, sq_8_10, sq_9_10, sq_10_24, sq_11_9, sq_12_19, sq_13_51, sq_14_13, sq_15_19)), tr_ck_ok sp_122_v, H⟩
theorem sp_123_v : tr_ck (tr_sy (8, sq_1_10, sq_2_10, sq_3_10, sq_4_8, sq_5_8, sq_6_8, sq_7_0, sq_8_10, sq_9_10, sq_10_24, sq_11_9, sq_12_19, sq_13_51, sq_14_13, sq_15_19) 1 2) 0 (8, sq_1_10, sq_2_10, sq_3_10, sq_4_8, sq_5_8, sq_6_8, sq_7_0, sq_8_10, sq_9_10, sq_10_25, sq_11_9, sq_12_20, sq_13_52, sq_14_14, sq_15_20) = true := by decide +kernel
theorem sp_123 {e : Int32 → Int32} {post : Int32 → St2 → Prop} (H : post 0 (8, tr_g sq_1_10, tr_g sq_2_10, tr_g sq_3_10, tr_h e sq_4_8, tr_g sq_5_8, tr_g sq_6_8, tr_g sq_7_0, tr_g sq_8_10, tr_g sq_9_10, tr_g sq_10_25, tr_g sq_11_9, tr_g sq_12_20, tr_g sq_13_52, tr_g sq_14_14, tr_g sq_15_20)) : wpX_sync post (8, tr_g sq_1_10, tr_g sq_2_10, tr_g sq_3_10, tr_h e sq_4_8, tr_g sq_5_8, tr_g sq_6_8, tr_g sq_7_0, tr_g sq_8_10, tr_g sq_9_10, tr_g sq_10_24, tr_g sq_11_9, tr_g sq_12_19, tr_g sq_13_51, tr_g sq_14_13, tr_g sq_15_19) 1 2 := tr_sy_ok ⟨(0, (8, sq_1_10, sq_2_10, sq_3_10, sq_4_8, sq_5_8, sq_6_8, sq_7_0, sq_8_10, sq_9_10, sq_10_25, sq_11_9, sq_12_20, sq_13_52, sq_14_14, sq_15_20)), tr_ck_ok sp_123_v, H⟩
theorem sp_124_v : tr_ck (tr_sy (8, sq_1_10, sq_2_10, sq_3_10, sq_4_8, sq_5_8, sq_6_8, sq_7_0, sq_8_10, sq_9_10, sq_10_25, sq_11_9, sq_12_20, sq_13_52, sq_14_14, sq_15_20) 2 1) 0 (8, sq_1_10, sq_2_10, sq_3_10, sq_4_8, sq_5_8, sq_6_8, sq_7_0, sq_8_10, sq_9_10, sq_10_26, sq_11_10, sq_12_21, sq_13_53, sq_14_15, sq_15_21) = true := by decide +kernel
theorem sp_124 {e : Int32 → Int32} {post : Int32 → St2 → Prop} (H : post 0 (8, tr_g sq_1_10, tr_g sq_2_10, tr_g sq_3_10, tr_h e sq_4_8, tr_g sq_5_8, tr_g sq_6_8, tr_g sq_7_0, tr_g sq_8_10, tr_g sq_9_10, tr_g sq_10_26, tr_g sq_11_10, tr_g sq_12_21, tr_g sq_13_53, tr_g sq_14_15, tr_g sq_15_21)) : wpX_sync post (8, tr_g sq_1_10, tr_g sq_2_10, tr_g sq_3_10, tr_h e sq_4_8, tr_g sq_5_8, tr_g sq_6_8, tr_g sq_7_0, tr_g sq_8_10, tr_g sq_9_10, tr_g sq_10_25, tr_g sq_11_9, tr_g sq_12_20, tr_g sq_13_52, tr_g sq_14_14, tr_g sq_15_20) 2 1 := tr_sy_ok ⟨(0, (8, sq_1_10, sq_2_10, sq_3_10, sq_4_8, sq_5_8, sq_6_8, sq_7_0, sq_8_10, sq_9_10, sq_10_26, sq_11_10, sq_12_21, sq_13_53, sq_14_15, sq_15_21)), tr_ck_ok sp_124_v, H⟩
theorem sp_125_v : tr_ck (tr_sy (8, sq_1_10, sq_2_10, sq_3_10, sq_4_8, sq_5_8, sq_6_8, sq_7_0, sq_8_10, sq_9_10, sq_10_26, sq_11_10, sq_12_21, sq_13_53, sq_14_15, sq_15_21) 1 0) 0 (8, sq_1_10, sq_2_10, sq_3_10, sq_4_8, sq_5_8, sq_6_8, sq_7_0, sq_8_10, sq_9_10, sq_10_27, sq_11_11, sq_12_22, sq_13_54, sq_14_16, sq_15_22) = true := by decide +kernel
theorem sp_125 {e : Int32 → Int32} {post : Int32 → St2 → Prop} (H : post 0 (8, tr_g sq_1_10, tr_g sq_2_10, tr_g sq_3_10, tr_h e sq_4_8, tr_g sq_5_8, tr_g sq_6_8, tr_g sq_7_0, tr_g sq_8_10, tr_g sq_9_10, tr_g sq_10_27, tr_g sq_11_11, tr_g sq_12_22, tr_g sq_13_54, tr_g sq_14_16, tr_g sq_15_22)) : wpX_sync post (8, tr_g sq_1_10, tr_g sq_2_10, tr_g sq_3_10, tr_h e sq_4_8, tr_g sq_5_8, tr_g sq_6_8, tr_g sq_7_0, tr_g sq_8_10, tr_g sq_9_10, tr_g sq_10_26, tr_g sq_11_10, tr_g sq_12_21, tr_g sq_13_53, tr_g sq_14_15, tr_g sq_15_21) 1 0 := tr_sy_ok ⟨(0, (8, sq_1_10, sq_2_10, sq_3_10, sq_4_8, sq_5_8, sq_6_8, sq_7_0, sq_8_10, sq_9_10, sq_10_27, sq_11_11, sq_12_22, sq_13_54, sq_14_16, sq_15_22)), tr_ck_ok sp_125_v, H⟩
theorem sp_126_v : tr_al sq_4_8 sq_12_22 sq_13_54 sq_15_22 0 1 = some 1 := by decide +kernel
theorem sp_126 {e : Int32 → Int32} {post : Int32 → Prop} (H : post 1) : wpX_alike post (8, tr_g sq_1_10, tr_g sq_2_10, tr_g sq_3_10, tr_h e sq_4_8, tr_g sq_5_8, tr_g sq_6_8, tr_g sq_7_0, tr_g sq_8_10, tr_g sq_9_10, tr_g sq_10_27, tr_g sq_11_11, tr_g sq_12_22, tr_g sq_13_54, tr_g sq_14_16, tr_g sq_15_22) 0 1 := tr_al_ok ⟨1, sp_126_v, H⟩
theorem sp_127_v : tr_al sq_4_8 sq_12_22 sq_13_54 sq_15_22 1 2 = some 1 := by decide +kernel
theorem sp_127 {e : Int32 → Int32} {post : Int32 → Prop} (H : post 1) : wpX_alike post (8, tr_g sq_1_10, tr_g sq_2_10, tr_g sq_3_10, tr_h e sq_4_8, tr_g sq_5_8, tr_g sq_6_8, tr_g sq_7_0, tr_g sq_8_10, tr_g sq_9_10, tr_g sq_10_27, tr_g sq_11_11, tr_g sq_12_22, tr_g sq_13_54, tr_g sq_14_16, tr_g sq_15_22) 1 2 := tr_al_ok ⟨1, sp_127_v, H⟩
theorem sp_128_v : tr_lt sq_4_8 sq_12_22 sq_13_54 sq_15_22 0 0 = some 3 := by decide +kernel
theorem sp_128 {e : Int32 → Int32} {post : Int32 → Prop} (H : post (e 3)) : wpX_letter post (8, tr_g sq_1_10, tr_g sq_2_10, tr_g sq_3_10, tr_h e sq_4_8, tr_g sq_5_8, tr_g sq_6_8, tr_g sq_7_0, tr_g sq_8_10, tr_g sq_9_10, tr_g sq_10_27, tr_g sq_11_11, tr_g sq_12_22, tr_g sq_13_54, tr_g sq_14_16, tr_g sq_15_22) 0 0 := tr_lt_ok ⟨3, sp_128_v, H⟩
theorem sp_129_v : tr_ro sq_14_16 1 = some 7 := by decide +kernel
theorem sp_129 {e : Int32 → Int32} {post : Int32 → Prop} (H : post 7) : wpX_row post (8, tr_g sq_1_10, tr_g sq_2_10, tr_g sq_3_10, tr_h e sq_4_8, tr_g sq_5_8, tr_g sq_6_8, tr_g sq_7_0, tr_g sq_8_10, tr_g sq_9_10, tr_g sq_10_27, tr_g sq_11_11, tr_g sq_12_22, tr_g sq_13_54, tr_g sq_14_16, tr_g sq_15_22) 1 := tr_ro_ok ⟨7, sp_129_v, H⟩
theorem sp_130_v : tr_ro sq_15_22 1 = some 6 := by decide +kernel
theorem sp_130 {e : Int32 → Int32} {post : Int32 → Prop} (H : post 6) : wpX_length post (8, tr_g sq_1_10, tr_g sq_2_10, tr_g sq_3_10, tr_h e sq_4_8, tr_g sq_5_8, tr_g sq_6_8, tr_g sq_7_0, tr_g sq_8_10, tr_g sq_9_10, tr_g sq_10_27, tr_g sq_11_11, tr_g sq_12_22, tr_g sq_13_54, tr_g sq_14_16, tr_g sq_15_22) 1 := tr_ln_ok ⟨6, sp_130_v, H⟩
theorem sp_131_v : tr_ko sq_10_27 0 1 = some 3 := by decide +kernel
theorem sp_131 {e : Int32 → Int32} {post : Int32 → Prop} (H : post 3) : wpX_known post (8, tr_g sq_1_10, tr_g sq_2_10, tr_g sq_3_10, tr_h e sq_4_8, tr_g sq_5_8, tr_g sq_6_8, tr_g sq_7_0, tr_g sq_8_10, tr_g sq_9_10, tr_g sq_10_27, tr_g sq_11_11, tr_g sq_12_22, tr_g sq_13_54, tr_g sq_14_16, tr_g sq_15_22) 0 1 := tr_ko_ok ⟨3, sp_131_v, H⟩
theorem sp_132_v : tr_ko sq_10_27 1 2 = some 2 := by decide +kernel
theorem sp_132 {e : Int32 → Int32} {post : Int32 → Prop} (H : post 2) : wpX_known post (8, tr_g sq_1_10, tr_g sq_2_10, tr_g sq_3_10, tr_h e sq_4_8, tr_g sq_5_8, tr_g sq_6_8, tr_g sq_7_0, tr_g sq_8_10, tr_g sq_9_10, tr_g sq_10_27, tr_g sq_11_11, tr_g sq_12_22, tr_g sq_13_54, tr_g sq_14_16, tr_g sq_15_22) 1 2 := tr_ko_ok ⟨2, sp_132_v, H⟩
end
section
theorem tq_685_0 {e : Int32 → Int32} {post : Int32 → St0 → Prop} {mc ms kc ks : Nat} (hp : post 1 ()) : wL_lawOf_685 post mc ms (e 1) 5 5 kc ks 9 (tr_g sq_1_8) (tr_g sq_2_8) (tr_g sq_3_8) (tr_h e sq_4_6) (tr_g sq_5_6) (tr_g sq_6_6) (tr_g sq_7_1) (tr_g sq_8_8) (tr_g sq_9_8) (tr_g sq_10_20) (tr_g sq_11_11) (tr_g sq_12_17) (tr_g sq_13_20) (tr_g sq_14_16) (tr_g sq_15_15) := by
  refine br_t rfl (sp_53 ?_)
  refine br_t rfl (sp_54 ?_)
  exact br_t rfl (tr_ii_no (br_t rfl (tr_al_no (br_t rfl hp))))
theorem tq_589_0 {e : Int32 → Int32} {post : Int32 → St0 → Prop} {mc ms kc ks : Nat} (hp : post 1 ()) : wL_lawOf_589 post mc ms (e 1) (e 3) 1 4 4 kc ks 9 (tr_g sq_1_8) (tr_g sq_2_8) (tr_g sq_3_8) (tr_h e sq_4_6) (tr_g sq_5_6) (tr_g sq_6_6) (tr_g sq_7_1) (tr_g sq_8_8) (tr_g sq_9_8) (tr_g sq_10_17) (tr_g sq_11_9) (tr_g sq_12_14) (tr_g sq_13_17) (tr_g sq_14_13) (tr_g sq_15_12) := by
  refine br_t rfl (sp_45 ?_)
  refine br_t rfl (sp_46 ?_)
  refine br_t rfl (sp_47 ?_)
  refine br_t rfl (sp_48 ?_)
  refine br_t rfl (sp_49 ?_)
  refine br_t rfl (sp_50 ?_)
  refine br_t rfl (sp_51 ?_)
  refine br_t rfl (sp_52 ?_)
  exact br_f (by decide) (tq_685_0 hp)
theorem tq_554_0 {e : Int32 → Int32} {post : Int32 → St0 → Prop} {mc ms kc ks : Nat} (hp : post 1 ()) : wL_lawOf_554 post mc ms (e 1) (e 3) 1 (e 2) (e 2) kc ks 7 (tr_g sq_1_6) (tr_g sq_2_6) (tr_g sq_3_6) (tr_h e sq_4_4) (tr_g sq_5_4) (tr_g sq_6_4) (tr_g sq_7_1) (tr_g sq_8_6) (tr_g sq_9_6) (tr_g sq_10_15) (tr_g sq_11_7) (tr_g sq_12_12) (tr_g sq_13_15) (tr_g sq_14_11) (tr_g sq_15_8) := by
  refine br_t rfl (sp_43 ?_)
  refine br_t rfl (sp_44 ?_)
  exact br_f (by decide) (tq_589_0 hp)
theorem tq_534_0 {e : Int32 → Int32} {post : Int32 → St0 → Prop} {mc ms kc ks : Nat} (hp : post 1 ()) : wL_lawOf_534 post mc ms (e 1) (e 2) (e 3) (e 4) 0 1 3 3 kc ks 7 (tr_g sq_1_6) (tr_g sq_2_6) (tr_g sq_3_6) (tr_h e sq_4_4) (tr_g sq_5_4) (tr_g sq_6_4) (tr_g sq_7_1) (tr_g sq_8_6) (tr_g sq_9_6) (tr_g sq_10_15) (tr_g sq_11_7) (tr_g sq_12_12) (tr_g sq_13_15) (tr_g sq_14_11) (tr_g sq_15_8) := by
  refine br_t rfl (sp_42 ?_)
  exact br_t rfl (tq_554_0 hp)
theorem tq_502_0 {e : Int32 → Int32} {post : Int32 → St0 → Prop} {mc ms kc ks : Nat} (hp : post 1 ()) : wL_lawOf_502 post mc ms (e 1) (e 2) (e 3) (e 4) 0 1 0 0 kc ks 7 (tr_g sq_1_6) (tr_g sq_2_6) (tr_g sq_3_6) (tr_h e sq_4_4) (tr_g sq_5_4) (tr_g sq_6_4) (tr_g sq_7_1) (tr_g sq_8_6) (tr_g sq_9_6) (tr_g sq_10_15) (tr_g sq_11_7) (tr_g sq_12_12) (tr_g sq_13_15) (tr_g sq_14_11) (tr_g sq_15_8) := by
  refine br_t rfl (sp_40 ?_)
  refine br_t rfl (sp_41 ?_)
  exact br_f (by decide) (tq_534_0 hp)
theorem tq_450_0 {e : Int32 → Int32} {post : Int32 → St0 → Prop} {mc ms kc ks : Nat} (hp : post 1 ()) : wL_lawOf_450 post mc ms (e 1) (e 2) (e 3) (e 4) 0 1 3 3 kc ks 7 (tr_g sq_1_6) (tr_g sq_2_6) (tr_g sq_3_6) (tr_h e sq_4_4) (tr_g sq_5_4) (tr_g sq_6_4) (tr_g sq_7_1) (tr_g sq_8_6) (tr_g sq_9_6) (tr_g sq_10_12) (tr_g sq_11_6) (tr_g sq_12_10) (tr_g sq_13_12) (tr_g sq_14_9) (tr_g sq_15_6) := by
  refine br_t rfl (sp_36 ?_)
  refine br_t rfl (sp_37 ?_)
  refine br_t rfl (sp_38 ?_)
  refine br_t rfl (sp_39 ?_)
  exact br_f (by decide) (tq_502_0 hp)
theorem tq_430_0 {e : Int32 → Int32} {post : Int32 → St0 → Prop} {mc ms kc ks : Nat} (hp : post 1 ()) : wL_lawOf_430 post mc ms (e 1) (e 2) (e 3) (e 4) 0 1 kc ks 6 (tr_g sq_1_5) (tr_g sq_2_5) (tr_g sq_3_5) (tr_h e sq_4_4) (tr_g sq_5_4) (tr_g sq_6_4) (tr_g sq_7_0) (tr_g sq_8_5) (tr_g sq_9_5) (tr_g sq_10_11) (tr_g sq_11_6) (tr_g sq_12_10) (tr_g sq_13_11) (tr_g sq_14_9) (tr_g sq_15_9) :=
  sp_35 (br_f (by decide) (tq_450_0 hp))
end
section
theorem tq_685_1 {e : Int32 → Int32} {post : Int32 → St0 → Prop} {mc ms kc ks : Nat} (hp : post 1 ()) : wL_lawOf_685 post mc ms (e 1) 5 5 kc ks 9 (tr_g sq_1_8) (tr_g sq_2_8) (tr_g sq_3_8) (tr_h e sq_4_6) (tr_g sq_5_6) (tr_g sq_6_6) (tr_g sq_7_2) (tr_g sq_8_8) (tr_g sq_9_8) (tr_g sq_10_20) (tr_g sq_11_11) (tr_g sq_12_17) (tr_g sq_13_29) (tr_g sq_14_16) (tr_g sq_15_15) := by
  refine br_t rfl (sp_73 ?_)
  refine br_t rfl (sp_74 ?_)
  exact br_t rfl (tr_ii_no (br_t rfl (tr_al_no (br_t rfl hp))))
theorem tq_589_1 {e : Int32 → Int32} {post : Int32 → St0 → Prop} {mc ms kc ks : Nat} (hp : post 1 ()) : wL_lawOf_589 post mc ms (e 1) (e 3) 1 4 4 kc ks 9 (tr_g sq_1_8) (tr_g sq_2_8) (tr_g sq_3_8) (tr_h e sq_4_6) (tr_g sq_5_6) (tr_g sq_6_6) (tr_g sq_7_2) (tr_g sq_8_8) (tr_g sq_9_8) (tr_g sq_10_17) (tr_g sq_11_9) (tr_g sq_12_14) (tr_g sq_13_26) (tr_g sq_14_13) (tr_g sq_15_12) := by
  refine br_t rfl (sp_65 ?_)
  refine br_t rfl (sp_66 ?_)
  refine br_t rfl (sp_67 ?_)
  refine br_t rfl (sp_68 ?_)
  refine br_t rfl (sp_69 ?_)
  refine br_t rfl (sp_70 ?_)
  refine br_t rfl (sp_71 ?_)
  refine br_t rfl (sp_72 ?_)
  exact br_f (by decide) (tq_685_1 hp)
theorem tq_554_1 {e : Int32 → Int32} {post : Int32 → St0 → Prop} {mc ms kc ks : Nat} (hp : post 1 ()) : wL_lawOf_554 post mc ms (e 1) (e 3) 1 (e 4) (e 4) kc ks 7 (tr_g sq_1_6) (tr_g sq_2_6) (tr_g sq_3_6) (tr_h e sq_4_4) (tr_g sq_5_4) (tr_g sq_6_4) (tr_g sq_7_2) (tr_g sq_8_6) (tr_g sq_9_6) (tr_g sq_10_15) (tr_g sq_11_7) (tr_g sq_12_12) (tr_g sq_13_24) (tr_g sq_14_11) (tr_g sq_15_8) := by
  refine br_t rfl (sp_63 ?_)
  refine br_t rfl (sp_64 ?_)
  exact br_f (by decide) (tq_589_1 hp)
theorem tq_534_1 {e : Int32 → Int32} {post : Int32 → St0 → Prop} {mc ms kc ks : Nat} (hp : post 1 ()) : wL_lawOf_534 post mc ms (e 1) (e 2) (e 3) (e 4) 1 1 3 3 kc ks 7 (tr_g sq_1_6) (tr_g sq_2_6) (tr_g sq_3_6) (tr_h e sq_4_4) (tr_g sq_5_4) (tr_g sq_6_4) (tr_g sq_7_2) (tr_g sq_8_6) (tr_g sq_9_6) (tr_g sq_10_15) (tr_g sq_11_7) (tr_g sq_12_12) (tr_g sq_13_24) (tr_g sq_14_11) (tr_g sq_15_8) := by
  refine br_t rfl (sp_62 ?_)
  exact br_f (by decide) (tq_554_1 hp)
theorem tq_502_1 {e : Int32 → Int32} {post : Int32 → St0 → Prop} {mc ms kc ks : Nat} (hp : post 1 ()) : wL_lawOf_502 post mc ms (e 1) (e 2) (e 3) (e 4) 1 1 0 0 kc ks 7 (tr_g sq_1_6) (tr_g sq_2_6) (tr_g sq_3_6) (tr_h e sq_4_4) (tr_g sq_5_4) (tr_g sq_6_4) (tr_g sq_7_2) (tr_g sq_8_6) (tr_g sq_9_6) (tr_g sq_10_15) (tr_g sq_11_7) (tr_g sq_12_12) (tr_g sq_13_24) (tr_g sq_14_11) (tr_g sq_15_8) := by
  refine br_t rfl (sp_60 ?_)
  refine br_t rfl (sp_61 ?_)
  exact br_f (by decide) (tq_534_1 hp)
theorem tq_450_1 {e : Int32 → Int32} {post : Int32 → St0 → Prop} {mc ms kc ks : Nat} (hp : post 1 ()) : wL_lawOf_450 post mc ms (e 1) (e 2) (e 3) (e 4) 1 1 3 3 kc ks 7 (tr_g sq_1_6) (tr_g sq_2_6) (tr_g sq_3_6) (tr_h e sq_4_4) (tr_g sq_5_4) (tr_g sq_6_4) (tr_g sq_7_2) (tr_g sq_8_6) (tr_g sq_9_6) (tr_g sq_10_12) (tr_g sq_11_6) (tr_g sq_12_10) (tr_g sq_13_21) (tr_g sq_14_9) (tr_g sq_15_6) := by
  refine br_t rfl (sp_56 ?_)
  refine br_t rfl (sp_57 ?_)
  refine br_t rfl (sp_58 ?_)
  refine br_t rfl (sp_59 ?_)
  exact br_f (by decide) (tq_502_1 hp)
theorem tq_430_1 {e : Int32 → Int32} {post : Int32 → St0 → Prop} {mc ms kc ks : Nat} (hp : post 1 ()) : wL_lawOf_430 post mc ms (e 1) (e 2) (e 3) (e 4) 1 1 kc ks 6 (tr_g sq_1_5) (tr_g sq_2_5) (tr_g sq_3_5) (tr_h e sq_4_4) (tr_g sq_5_4) (tr_g sq_6_4) (tr_g sq_7_0) (tr_g sq_8_5) (tr_g sq_9_5) (tr_g sq_10_11) (tr_g sq_11_6) (tr_g sq_12_10) (tr_g sq_13_11) (tr_g sq_14_9) (tr_g sq_15_9) :=
  sp_55 (br_f (by decide) (tq_450_1 hp))
end
section
theorem tq_685_2 {e : Int32 → Int32} {post : Int32 → St0 → Prop} {mc ms kc ks : Nat} (hp : post 1 ()) : wL_lawOf_685 post mc ms (e 1) 5 5 kc ks 9 (tr_g sq_1_8) (tr_g sq_2_8) (tr_g sq_3_8) (tr_h e sq_4_6) (tr_g sq_5_6) (tr_g sq_6_6) (tr_g sq_7_3) (tr_g sq_8_8) (tr_g sq_9_8) (tr_g sq_10_20) (tr_g sq_11_11) (tr_g sq_12_17) (tr_g sq_13_38) (tr_g sq_14_16) (tr_g sq_15_15) := by
  refine br_t rfl (sp_93 ?_)
  refine br_t rfl (sp_94 ?_)
  exact br_t rfl (tr_ii_no (br_t rfl (tr_al_no (br_t rfl hp))))
theorem tq_589_2 {e : Int32 → Int32} {post : Int32 → St0 → Prop} {mc ms kc ks : Nat} (hp : post 1 ()) : wL_lawOf_589 post mc ms (e 1) (e 3) 1 4 4 kc ks 9 (tr_g sq_1_8) (tr_g sq_2_8) (tr_g sq_3_8) (tr_h e sq_4_6) (tr_g sq_5_6) (tr_g sq_6_6) (tr_g sq_7_3) (tr_g sq_8_8) (tr_g sq_9_8) (tr_g sq_10_17) (tr_g sq_11_9) (tr_g sq_12_14) (tr_g sq_13_35) (tr_g sq_14_13) (tr_g sq_15_12) := by
  refine br_t rfl (sp_85 ?_)
  refine br_t rfl (sp_86 ?_)
  refine br_t rfl (sp_87 ?_)
  refine br_t rfl (sp_88 ?_)
  refine br_t rfl (sp_89 ?_)
  refine br_t rfl (sp_90 ?_)
  refine br_t rfl (sp_91 ?_)
  refine br_t rfl (sp_92 ?_)
  exact br_f (by decide) (tq_685_2 hp)
theorem tq_554_2 {e : Int32 → Int32} {post : Int32 → St0 → Prop} {mc ms kc ks : Nat} (hp : post 1 ()) : wL_lawOf_554 post mc ms (e 1) (e 3) 1 (e 4) (e 4) kc ks 7 (tr_g sq_1_6) (tr_g sq_2_6) (tr_g sq_3_6) (tr_h e sq_4_4) (tr_g sq_5_4) (tr_g sq_6_4) (tr_g sq_7_3) (tr_g sq_8_6) (tr_g sq_9_6) (tr_g sq_10_15) (tr_g sq_11_7) (tr_g sq_12_12) (tr_g sq_13_33) (tr_g sq_14_11) (tr_g sq_15_8) := by
  refine br_t rfl (sp_83 ?_)
  refine br_t rfl (sp_84 ?_)
  exact br_f (by decide) (tq_589_2 hp)
theorem tq_534_2 {e : Int32 → Int32} {post : Int32 → St0 → Prop} {mc ms kc ks : Nat} (hp : post 1 ()) : wL_lawOf_534 post mc ms (e 1) (e 2) (e 3) (e 4) 2 1 3 3 kc ks 7 (tr_g sq_1_6) (tr_g sq_2_6) (tr_g sq_3_6) (tr_h e sq_4_4) (tr_g sq_5_4) (tr_g sq_6_4) (tr_g sq_7_3) (tr_g sq_8_6) (tr_g sq_9_6) (tr_g sq_10_15) (tr_g sq_11_7) (tr_g sq_12_12) (tr_g sq_13_33) (tr_g sq_14_11) (tr_g sq_15_8) := by
  refine br_t rfl (sp_82 ?_)
  exact br_f (by decide) (tq_554_2 hp)
theorem tq_502_2 {e : Int32 → Int32} {post : Int32 → St0 → Prop} {mc ms kc ks : Nat} (hp : post 1 ()) : wL_lawOf_502 post mc ms (e 1) (e 2) (e 3) (e 4) 2 1 0 0 kc ks 7 (tr_g sq_1_6) (tr_g sq_2_6) (tr_g sq_3_6) (tr_h e sq_4_4) (tr_g sq_5_4) (tr_g sq_6_4) (tr_g sq_7_3) (tr_g sq_8_6) (tr_g sq_9_6) (tr_g sq_10_15) (tr_g sq_11_7) (tr_g sq_12_12) (tr_g sq_13_33) (tr_g sq_14_11) (tr_g sq_15_8) := by
  refine br_t rfl (sp_80 ?_)
  refine br_t rfl (sp_81 ?_)
  exact br_f (by decide) (tq_534_2 hp)
theorem tq_450_2 {e : Int32 → Int32} {post : Int32 → St0 → Prop} {mc ms kc ks : Nat} (hp : post 1 ()) : wL_lawOf_450 post mc ms (e 1) (e 2) (e 3) (e 4) 2 1 3 3 kc ks 7 (tr_g sq_1_6) (tr_g sq_2_6) (tr_g sq_3_6) (tr_h e sq_4_4) (tr_g sq_5_4) (tr_g sq_6_4) (tr_g sq_7_3) (tr_g sq_8_6) (tr_g sq_9_6) (tr_g sq_10_12) (tr_g sq_11_6) (tr_g sq_12_10) (tr_g sq_13_30) (tr_g sq_14_9) (tr_g sq_15_6) := by
  refine br_t rfl (sp_76 ?_)
  refine br_t rfl (sp_77 ?_)
  refine br_t rfl (sp_78 ?_)
  refine br_t rfl (sp_79 ?_)
  exact br_f (by decide) (tq_502_2 hp)
theorem tq_430_2 {e : Int32 → Int32} {post : Int32 → St0 → Prop} {mc ms kc ks : Nat} (hp : post 1 ()) : wL_lawOf_430 post mc ms (e 1) (e 2) (e 3) (e 4) 2 1 kc ks 6 (tr_g sq_1_5) (tr_g sq_2_5) (tr_g sq_3_5) (tr_h e sq_4_4) (tr_g sq_5_4) (tr_g sq_6_4) (tr_g sq_7_0) (tr_g sq_8_5) (tr_g sq_9_5) (tr_g sq_10_11) (tr_g sq_11_6) (tr_g sq_12_10) (tr_g sq_13_11) (tr_g sq_14_9) (tr_g sq_15_9) :=
  sp_75 (br_f (by decide) (tq_450_2 hp))
end
section
theorem tq_685_3 {e : Int32 → Int32} {post : Int32 → St0 → Prop} {mc ms kc ks : Nat} (hp : post 1 ()) : wL_lawOf_685 post mc ms (e 1) 5 5 kc ks 9 (tr_g sq_1_8) (tr_g sq_2_8) (tr_g sq_3_8) (tr_h e sq_4_6) (tr_g sq_5_6) (tr_g sq_6_6) (tr_g sq_7_4) (tr_g sq_8_8) (tr_g sq_9_8) (tr_g sq_10_20) (tr_g sq_11_11) (tr_g sq_12_17) (tr_g sq_13_47) (tr_g sq_14_16) (tr_g sq_15_15) := by
  refine br_t rfl (sp_113 ?_)
  refine br_t rfl (sp_114 ?_)
  exact br_t rfl (tr_ii_no (br_t rfl (tr_al_no (br_t rfl hp))))
theorem tq_589_3 {e : Int32 → Int32} {post : Int32 → St0 → Prop} {mc ms kc ks : Nat} (hp : post 1 ()) : wL_lawOf_589 post mc ms (e 1) (e 3) 1 4 4 kc ks 9 (tr_g sq_1_8) (tr_g sq_2_8) (tr_g sq_3_8) (tr_h e sq_4_6) (tr_g sq_5_6) (tr_g sq_6_6) (tr_g sq_7_4) (tr_g sq_8_8) (tr_g sq_9_8) (tr_g sq_10_17) (tr_g sq_11_9) (tr_g sq_12_14) (tr_g sq_13_44) (tr_g sq_14_13) (tr_g sq_15_12) := by
  refine br_t rfl (sp_105 ?_)
  refine br_t rfl (sp_106 ?_)
  refine br_t rfl (sp_107 ?_)
  refine br_t rfl (sp_108 ?_)
  refine br_t rfl (sp_109 ?_)
  refine br_t rfl (sp_110 ?_)
  refine br_t rfl (sp_111 ?_)
  refine br_t rfl (sp_112 ?_)
  exact br_f (by decide) (tq_685_3 hp)
theorem tq_554_3 {e : Int32 → Int32} {post : Int32 → St0 → Prop} {mc ms kc ks : Nat} (hp : post 1 ()) : wL_lawOf_554 post mc ms (e 1) (e 3) 1 (e 4) (e 4) kc ks 7 (tr_g sq_1_6) (tr_g sq_2_6) (tr_g sq_3_6) (tr_h e sq_4_4) (tr_g sq_5_4) (tr_g sq_6_4) (tr_g sq_7_4) (tr_g sq_8_6) (tr_g sq_9_6) (tr_g sq_10_15) (tr_g sq_11_7) (tr_g sq_12_12) (tr_g sq_13_42) (tr_g sq_14_11) (tr_g sq_15_8) := by
  refine br_t rfl (sp_103 ?_)
  refine br_t rfl (sp_104 ?_)
  exact br_f (by decide) (tq_589_3 hp)
theorem tq_534_3 {e : Int32 → Int32} {post : Int32 → St0 → Prop} {mc ms kc ks : Nat} (hp : post 1 ()) : wL_lawOf_534 post mc ms (e 1) (e 2) (e 3) (e 4) 3 1 3 3 kc ks 7 (tr_g sq_1_6) (tr_g sq_2_6) (tr_g sq_3_6) (tr_h e sq_4_4) (tr_g sq_5_4) (tr_g sq_6_4) (tr_g sq_7_4) (tr_g sq_8_6) (tr_g sq_9_6) (tr_g sq_10_15) (tr_g sq_11_7) (tr_g sq_12_12) (tr_g sq_13_42) (tr_g sq_14_11) (tr_g sq_15_8) := by
  refine br_t rfl (sp_102 ?_)
  exact br_f (by decide) (tq_554_3 hp)
theorem tq_502_3 {e : Int32 → Int32} {post : Int32 → St0 → Prop} {mc ms kc ks : Nat} (hp : post 1 ()) : wL_lawOf_502 post mc ms (e 1) (e 2) (e 3) (e 4) 3 1 0 0 kc ks 7 (tr_g sq_1_6) (tr_g sq_2_6) (tr_g sq_3_6) (tr_h e sq_4_4) (tr_g sq_5_4) (tr_g sq_6_4) (tr_g sq_7_4) (tr_g sq_8_6) (tr_g sq_9_6) (tr_g sq_10_15) (tr_g sq_11_7) (tr_g sq_12_12) (tr_g sq_13_42) (tr_g sq_14_11) (tr_g sq_15_8) := by
  refine br_t rfl (sp_100 ?_)
  refine br_t rfl (sp_101 ?_)
  exact br_f (by decide) (tq_534_3 hp)
theorem tq_450_3 {e : Int32 → Int32} {post : Int32 → St0 → Prop} {mc ms kc ks : Nat} (hp : post 1 ()) : wL_lawOf_450 post mc ms (e 1) (e 2) (e 3) (e 4) 3 1 3 3 kc ks 7 (tr_g sq_1_6) (tr_g sq_2_6) (tr_g sq_3_6) (tr_h e sq_4_4) (tr_g sq_5_4) (tr_g sq_6_4) (tr_g sq_7_4) (tr_g sq_8_6) (tr_g sq_9_6) (tr_g sq_10_12) (tr_g sq_11_6) (tr_g sq_12_10) (tr_g sq_13_39) (tr_g sq_14_9) (tr_g sq_15_6) := by
  refine br_t rfl (sp_96 ?_)
  refine br_t rfl (sp_97 ?_)
  refine br_t rfl (sp_98 ?_)
  refine br_t rfl (sp_99 ?_)
  exact br_f (by decide) (tq_502_3 hp)
theorem tq_430_3 {e : Int32 → Int32} {post : Int32 → St0 → Prop} {mc ms kc ks : Nat} (hp : post 1 ()) : wL_lawOf_430 post mc ms (e 1) (e 2) (e 3) (e 4) 3 1 kc ks 6 (tr_g sq_1_5) (tr_g sq_2_5) (tr_g sq_3_5) (tr_h e sq_4_4) (tr_g sq_5_4) (tr_g sq_6_4) (tr_g sq_7_0) (tr_g sq_8_5) (tr_g sq_9_5) (tr_g sq_10_11) (tr_g sq_11_6) (tr_g sq_12_10) (tr_g sq_13_11) (tr_g sq_14_9) (tr_g sq_15_9) :=
  sp_95 (br_f (by decide) (tq_450_3 hp))
end
section
theorem tq_685_n {e : Int32 → Int32} {post : Int32 → St0 → Prop} {mc ms kc ks : Nat} (hp : post 1 ()) : wL_lawOf_685 post mc ms (e 1) 6 6 kc ks 8 (tr_g sq_1_10) (tr_g sq_2_10) (tr_g sq_3_10) (tr_h e sq_4_8) (tr_g sq_5_8) (tr_g sq_6_8) (tr_g sq_7_0) (tr_g sq_8_10) (tr_g sq_9_10) (tr_g sq_10_27) (tr_g sq_11_11) (tr_g sq_12_22) (tr_g sq_13_54) (tr_g sq_14_16) (tr_g sq_15_22) := by
  refine br_t rfl (sp_131 ?_)
  refine br_t rfl (sp_132 ?_)
  exact br_t rfl (tr_ii_no (br_t rfl (tr_al_no (br_t rfl hp))))
theorem tq_589_n {e : Int32 → Int32} {post : Int32 → St0 → Prop} {mc ms kc ks : Nat} (hp : post 1 ()) : wL_lawOf_589 post mc ms (e 1) (e 3) 0 5 5 kc ks 8 (tr_g sq_1_10) (tr_g sq_2_10) (tr_g sq_3_10) (tr_h e sq_4_8) (tr_g sq_5_8) (tr_g sq_6_8) (tr_g sq_7_0) (tr_g sq_8_10) (tr_g sq_9_10) (tr_g sq_10_24) (tr_g sq_11_9) (tr_g sq_12_19) (tr_g sq_13_51) (tr_g sq_14_13) (tr_g sq_15_19) := by
  refine br_t rfl (sp_123 ?_)
  refine br_t rfl (sp_124 ?_)
  refine br_t rfl (sp_125 ?_)
  refine br_t rfl (sp_126 ?_)
  refine br_t rfl (sp_127 ?_)
  refine br_t rfl (sp_128 ?_)
  refine br_t rfl (sp_129 ?_)
  refine br_t rfl (sp_130 ?_)
  exact br_t rfl (tq_685_n hp)
theorem tq_554_n {e : Int32 → Int32} {post : Int32 → St0 → Prop} {mc ms kc ks : Nat} (hp : post 1 ()) : wL_lawOf_554 post mc ms (e 1) (e 3) 0 (e 4) (e 4) kc ks 6 (tr_g sq_1_5) (tr_g sq_2_5) (tr_g sq_3_5) (tr_h e sq_4_4) (tr_g sq_5_4) (tr_g sq_6_4) (tr_g sq_7_0) (tr_g sq_8_5) (tr_g sq_9_5) (tr_g sq_10_22) (tr_g sq_11_7) (tr_g sq_12_12) (tr_g sq_13_49) (tr_g sq_14_11) (tr_g sq_15_17) := by
  refine br_t rfl (sp_121 ?_)
  refine br_t rfl (sp_122 ?_)
  exact br_t rfl (tq_589_n hp)
theorem tq_534_n {e : Int32 → Int32} {post : Int32 → St0 → Prop} {mc ms kc ks : Nat} (hp : post 1 ()) {x4 : Int32} (h4 : ¬ x4 = 0) : wL_lawOf_534 post mc ms (e 1) (e 2) (e 3) (e 4) x4 0 4 4 kc ks 6 (tr_g sq_1_5) (tr_g sq_2_5) (tr_g sq_3_5) (tr_h e sq_4_4) (tr_g sq_5_4) (tr_g sq_6_4) (tr_g sq_7_0) (tr_g sq_8_5) (tr_g sq_9_5) (tr_g sq_10_22) (tr_g sq_11_7) (tr_g sq_12_12) (tr_g sq_13_49) (tr_g sq_14_11) (tr_g sq_15_17) := by
  refine br_t rfl (sp_120 ?_)
  exact br_f h4 (tq_554_n hp)
theorem tq_502_n {e : Int32 → Int32} {post : Int32 → St0 → Prop} {mc ms kc ks : Nat} (hp : post 1 ()) {x4 : Int32} (h4 : ¬ x4 = 0) : wL_lawOf_502 post mc ms (e 1) (e 2) (e 3) (e 4) x4 0 (-1) (-1) kc ks 6 (tr_g sq_1_5) (tr_g sq_2_5) (tr_g sq_3_5) (tr_h e sq_4_4) (tr_g sq_5_4) (tr_g sq_6_4) (tr_g sq_7_0) (tr_g sq_8_5) (tr_g sq_9_5) (tr_g sq_10_22) (tr_g sq_11_7) (tr_g sq_12_12) (tr_g sq_13_49) (tr_g sq_14_11) (tr_g sq_15_17) := by
  refine br_t rfl (sp_118 ?_)
  refine br_t rfl (sp_119 ?_)
  exact br_t rfl (tq_534_n hp h4)
theorem tq_450_n {e : Int32 → Int32} {post : Int32 → St0 → Prop} {mc ms kc ks : Nat} (hp : post 1 ()) {x4 : Int32} (h4 : ¬ x4 = 0) : wL_lawOf_450 post mc ms (e 1) (e 2) (e 3) (e 4) x4 0 (-1) (-1) kc ks 6 (tr_g sq_1_5) (tr_g sq_2_5) (tr_g sq_3_5) (tr_h e sq_4_4) (tr_g sq_5_4) (tr_g sq_6_4) (tr_g sq_7_0) (tr_g sq_8_5) (tr_g sq_9_5) (tr_g sq_10_11) (tr_g sq_11_6) (tr_g sq_12_10) (tr_g sq_13_11) (tr_g sq_14_9) (tr_g sq_15_9) := by
  refine br_t rfl (sp_34 ?_)
  refine br_t rfl (sp_115 ?_)
  refine br_t rfl (sp_116 ?_)
  refine br_t rfl (sp_117 ?_)
  exact br_t rfl (tq_502_n hp h4)
theorem tq_430_n {e : Int32 → Int32} {post : Int32 → St0 → Prop} {mc ms kc ks : Nat} (hp : post 1 ()) {x4 : Int32} (h4 : ¬ x4 = 0) (o : x4 < 0 ∨ ¬ x4 < 0 ∧ 4 ≤ x4) : wL_lawOf_430 post mc ms (e 1) (e 2) (e 3) (e 4) x4 0 kc ks 6 (tr_g sq_1_5) (tr_g sq_2_5) (tr_g sq_3_5) (tr_h e sq_4_4) (tr_g sq_5_4) (tr_g sq_6_4) (tr_g sq_7_0) (tr_g sq_8_5) (tr_g sq_9_5) (tr_g sq_10_11) (tr_g sq_11_6) (tr_g sq_12_10) (tr_g sq_13_11) (tr_g sq_14_9) (tr_g sq_15_9) :=
  tr_dl_no (by decide) (by rw [show tr_g sq_15_9 (0 : Int32).toNatClampNeg = 4 by decide +kernel]; exact o) (br_t rfl (tq_450_n hp h4))
end
section
theorem tq_x4 (x : Int32) (h : ¬ x < 0) (h3 : ¬ 3 < x) : x = 0 ∨ x = 1 ∨ x = 2 ∨ x = 3 := by
  obtain ⟨j, hj, rfl⟩ := nI_of h
  have hj4 : j ≤ 3 := by
    rcases Nat.lt_or_ge 3 j with z | z
    · exact absurd (nI_lt z hj) h3
    · exact z
  match j, hj4 with
  | 0, _ => exact Or.inl rfl
  | 1, _ => exact Or.inr (Or.inl rfl)
  | 2, _ => exact Or.inr (Or.inr (Or.inl rfl))
  | 3, _ => exact Or.inr (Or.inr (Or.inr rfl))
theorem tq_x0 {x : Int32} (h : x < 0) : ¬ x = 0 := by
  rintro rfl
  exact absurd h (by decide)
theorem tq_x5 {x : Int32} (h : ¬ x < 0) (h3 : 3 < x) : ¬ x = 0 ∧ 4 ≤ x := by
  obtain ⟨j, hj, rfl⟩ := nI_of h
  have hj4 : 4 ≤ j := by
    rcases Nat.lt_or_ge j 4 with z | z
    · exact absurd h3 (nI_nlt (a := 3) (b := j) (by omega) (by decide))
    · exact z
  exact ⟨nI_ne0 (by omega) hj, nI_le hj4 hj⟩
theorem tq_336 {e : Int32 → Int32} {post : Int32 → St0 → Prop} {mc ms kc ks : Nat} (hp : post 1 ()) (x4 : Int32) : wL_lawOf_336 post mc ms (e 1) (e 2) (e 3) (e 4) x4 kc ks 6 (tr_g sq_1_5) (tr_g sq_2_5) (tr_g sq_3_5) (tr_h e sq_4_4) (tr_g sq_5_4) (tr_g sq_6_4) (tr_g sq_7_0) (tr_g sq_8_5) (tr_g sq_9_5) (tr_g sq_10_10) (tr_g sq_11_6) (tr_g sq_12_9) (tr_g sq_13_10) (tr_g sq_14_8) (tr_g sq_15_6) := by
  refine sp_28 ?_
  refine br_t rfl (sp_29 ?_)
  refine br_t rfl (sp_30 ?_)
  refine br_t rfl (sp_31 ?_)
  refine br_t rfl (sp_32 ?_)
  refine br_t rfl (sp_33 ?_)
  refine br_t rfl (sp_34 ?_)
  refine br_t rfl (br_c (fun h => ?_) (fun h => br_c (fun h3 => ?_) (fun h3 => ?_)))
  · exact tq_430_n hp (tq_x0 h) (Or.inl h)
  · exact tq_430_n hp (tq_x5 h h3).1 (Or.inr ⟨h, (tq_x5 h h3).2⟩)
  · rcases tq_x4 x4 h h3 with rfl | rfl | rfl | rfl
    · exact tq_430_0 hp
    · exact tq_430_1 hp
    · exact tq_430_2 hp
    · exact tq_430_3 hp
end
section
theorem tq_law {e : Int32 → Int32} {post : Int32 → St0 → Prop} (h0 : e 0 = 0) (hp : post 1 ()) (x4 : Int32) : wpL_lawOf post 16 814 () (e 1) (e 2) (e 3) (e 4) x4 := by
  refine ⟨by omega, by omega, 15, 798, by omega, by omega, tr_init h0 (by omega) (by omega) ?_⟩
  refine sp_0 ?_
  refine br_t rfl (sp_1 ?_)
  refine br_t rfl (sp_2 ?_)
  refine br_t rfl (sp_3 ?_)
  refine br_t rfl (sp_4 ?_)
  refine br_t rfl (sp_5 ?_)
  refine br_t rfl (sp_6 ?_)
  refine br_t rfl (sp_7 ?_)
  refine br_t rfl (sp_8 ?_)
  refine br_t rfl (sp_9 ?_)
  refine br_t rfl (sp_10 ?_)
  refine br_t rfl (sp_11 ?_)
  refine br_t rfl (sp_12 ?_)
  refine br_t rfl (sp_13 ?_)
  refine br_t rfl (sp_14 ?_)
  refine br_t rfl (sp_15 ?_)
  refine br_t rfl (sp_16 ?_)
  refine br_t rfl (sp_17 ?_)
  refine br_t rfl (sp_18 ?_)
  refine br_t rfl (sp_19 ?_)
  refine br_t rfl (sp_20 ?_)
  refine br_t rfl (sp_21 ?_)
  refine br_t rfl (sp_22 ?_)
  refine br_t rfl (sp_23 ?_)
  refine br_t rfl (sp_24 ?_)
  refine br_t rfl (sp_25 ?_)
  refine br_t rfl (sp_26 ?_)
  refine br_t rfl (sp_27 ?_)
  exact br_t rfl (tq_336 hp x4)
end
section
def tq_en (a b c d : Int32) : Int32 → Int32 := fun z => if z = 0 then 0 else if z = 1 then a else if z = 2 then b else if z = 3 then c else d
theorem tq_cell {post : Int32 → Prop} {L : Nat} {xs : Nat → Int32} (hL : L ≤ 5) (k : Nat) {p : Int32} (hk : p = nI k) (k5 : k < 5) (H : ∀ x, post x) : wpL_cellAt post L xs () p :=
  pk_le L k (fun _ => H 0) (fun z => ⟨pk_in k L z hk, H _⟩) rfl hk
theorem tq_all (a b c d p : Int32) : wpL_lawOf (fun r _ => r = 1) 16 814 () a b c d p := by
  have h := tq_law (e := tq_en a b c d) (post := fun r _ => r = 1) rfl rfl p
  rw [show tq_en a b c d 1 = a from rfl, show tq_en a b c d 2 = b from rfl, show tq_en a b c d 3 = c from rfl, show tq_en a b c d 4 = d from rfl] at h
  exact h
theorem i_vc (xs : Nat → Int32) (L : Nat) (hL : L ≤ 5) : wpL_law (fun r => r = 1) L xs :=
  tq_cell hL 0 rfl (by omega) (fun a => tq_cell hL 1 rfl (by omega) (fun b => tq_cell hL 2 rfl (by omega) (fun c => tq_cell hL 3 rfl (by omega) (fun d => tq_cell hL 4 rfl (by omega) (fun p => ⟨16, 814, by omega, by omega, tq_all a b c d p⟩)))))
end
