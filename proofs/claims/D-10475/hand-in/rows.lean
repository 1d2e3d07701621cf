section
/-! Part 01: the pure picture: unit lists, putting, joining, carrying, applying. -/
/-- a single step: none keeps, some none drops, some (some c) adds c -/
abbrev td_Op : Type := Option (Option Int32)
def td_kd : td_Op → Int32
  | none => 1
  | some none => 2
  | some (some _) => 3
/-- a letter put at the end of a stored delta (newest first): before the drops that end it -/
def td_ins (c : Int32) : List td_Op → List td_Op
  | [] => [some (some c)]
  | none :: W => some (some c) :: none :: W
  | some none :: W => some none :: td_ins c W
  | some (some e) :: W => some (some c) :: some (some e) :: W
def td_pu : td_Op → List td_Op → List td_Op
  | none, W => none :: W
  | some none, W => some none :: W
  | some (some c), W => td_ins c W
def td_fo : List td_Op → List td_Op → List td_Op
  | W, [] => W
  | W, o :: l => td_fo (td_pu o W) l
theorem td_fo_app (W l l' : List td_Op) : td_fo W (l ++ l') = td_fo (td_fo W l) l' := by
  induction l generalizing W with
  | nil => rfl
  | cons o l ih => exact ih _
def td_in : List td_Op → Nat
  | [] => 0
  | none :: l => td_in l + 1
  | some none :: l => td_in l + 1
  | some (some _) :: l => td_in l
def td_ou : List td_Op → Nat
  | [] => 0
  | none :: l => td_ou l + 1
  | some none :: l => td_ou l
  | some (some _) :: l => td_ou l + 1
def td_lt : List td_Op → List Int32
  | [] => []
  | none :: l => td_lt l
  | some none :: l => td_lt l
  | some (some c) :: l => c :: td_lt l
theorem td_in_app (l l' : List td_Op) : td_in (l ++ l') = td_in l + td_in l' := by
  induction l with
  | nil => simp [td_in]
  | cons o l ih => rcases o with _ | _ | c <;> simp only [List.cons_append, td_in, ih] <;> omega
theorem td_ou_app (l l' : List td_Op) : td_ou (l ++ l') = td_ou l + td_ou l' := by
  induction l with
  | nil => simp [td_ou]
  | cons o l ih => rcases o with _ | _ | c <;> simp only [List.cons_append, td_ou, ih] <;> omega
theorem td_lt_app (l l' : List td_Op) : td_lt (l ++ l') = td_lt l ++ td_lt l' := by
  induction l with
  | nil => rfl
  | cons o l ih => rcases o with _ | _ | c <;> simp only [List.cons_append, td_lt, ih]
theorem td_in_rev (l : List td_Op) : td_in l.reverse = td_in l := by
  induction l with
  | nil => rfl
  | cons o l ih => rcases o with _ | _ | c <;> simp only [List.reverse_cons, td_in_app, td_in, ih] <;> omega
theorem td_ou_rev (l : List td_Op) : td_ou l.reverse = td_ou l := by
  induction l with
  | nil => rfl
  | cons o l ih => rcases o with _ | _ | c <;> simp only [List.reverse_cons, td_ou_app, td_ou, ih] <;> omega
theorem td_lt_rev (l : List td_Op) : td_lt l.reverse = (td_lt l).reverse := by
  induction l with
  | nil => rfl
  | cons o l ih => rcases o with _ | _ | c <;> simp [td_lt_app, td_lt, ih]
theorem td_len (l : List td_Op) : l.length = td_in l + (td_lt l).length := by
  induction l with
  | nil => rfl
  | cons o l ih => rcases o with _ | _ | c <;> simp only [List.length_cons, td_in, td_lt, ih] <;> omega
theorem td_lt_ou (l : List td_Op) : (td_lt l).length ≤ td_ou l := by
  induction l with
  | nil => exact Nat.le_refl 0
  | cons o l ih => rcases o with _ | _ | c <;> simp only [List.length_cons, td_ou, td_lt] <;> omega
theorem td_in_ins (c : Int32) (W : List td_Op) : td_in (td_ins c W) = td_in W := by
  induction W with
  | nil => rfl
  | cons o l ih => rcases o with _ | _ | c <;> simp only [td_ins, td_in, ih]
theorem td_ou_ins (c : Int32) (W : List td_Op) : td_ou (td_ins c W) = td_ou W + 1 := by
  induction W with
  | nil => rfl
  | cons o l ih => rcases o with _ | _ | c <;> simp only [td_ins, td_ou, ih]
theorem td_lt_ins (c : Int32) (W : List td_Op) : td_lt (td_ins c W) = c :: td_lt W := by
  induction W with
  | nil => rfl
  | cons o l ih => rcases o with _ | _ | c <;> simp only [td_ins, td_lt, ih]
theorem td_in_fo (l W : List td_Op) : td_in (td_fo W l) = td_in W + td_in l := by
  induction l generalizing W with
  | nil => rfl
  | cons o l ih => rcases o with _ | _ | c <;> simp only [td_fo, td_pu, ih, td_in, td_in_ins] <;> omega
theorem td_ou_fo (l W : List td_Op) : td_ou (td_fo W l) = td_ou W + td_ou l := by
  induction l generalizing W with
  | nil => rfl
  | cons o l ih => rcases o with _ | _ | c <;> simp only [td_fo, td_pu, ih, td_ou, td_ou_ins] <;> omega
theorem td_la_fo (l W : List td_Op) : (td_lt (td_fo W l)).length = (td_lt W).length + (td_lt l).length := by
  induction l generalizing W with
  | nil => rfl
  | cons o l ih => rcases o with _ | _ | c <;> simp only [td_fo, td_pu, ih, td_lt, td_lt_ins, List.length_cons] <;> omega
/-- the sequence that a join puts, unit by unit -/
def td_jn : List td_Op → List td_Op → List td_Op
  | some none :: x, y => some none :: td_jn x y
  | [], [] => []
  | [], none :: y => none :: td_jn [] y
  | [], some none :: y => some none :: td_jn [] y
  | [], some (some c) :: y => some (some c) :: td_jn [] y
  | none :: _, [] => []
  | none :: x, none :: y => none :: td_jn x y
  | none :: x, some none :: y => some none :: td_jn x y
  | none :: x, some (some c) :: y => some (some c) :: td_jn (none :: x) y
  | some (some _) :: _, [] => []
  | some (some e) :: x, none :: y => some (some e) :: td_jn x y
  | some (some _) :: x, some none :: y => td_jn x y
  | some (some e) :: x, some (some c) :: y => some (some c) :: td_jn (some (some e) :: x) y
termination_by x y => x.length + y.length
decreasing_by all_goals (simp only [List.length_cons]; omega)
/-- the sequence that a carry puts: x carried over y; f: x's letters first -/
def td_cr (f : Bool) : List td_Op → List td_Op → List td_Op
  | [], [] => []
  | [], none :: _ => []
  | [], some none :: _ => []
  | [], some (some _) :: y => none :: td_cr f [] y
  | none :: _, [] => []
  | none :: x, none :: y => none :: td_cr f x y
  | none :: x, some none :: y => td_cr f x y
  | none :: x, some (some _) :: y => none :: td_cr f (none :: x) y
  | some none :: _, [] => []
  | some none :: x, none :: y => some none :: td_cr f x y
  | some none :: x, some none :: y => td_cr f x y
  | some none :: x, some (some _) :: y => none :: td_cr f (some none :: x) y
  | some (some e) :: x, [] => some (some e) :: td_cr f x []
  | some (some e) :: x, none :: y => some (some e) :: td_cr f x (none :: y)
  | some (some e) :: x, some none :: y => some (some e) :: td_cr f x (some none :: y)
  | some (some e) :: x, some (some c) :: y => if f = true then some (some e) :: td_cr f x (some (some c) :: y) else none :: td_cr f (some (some e) :: x) y
termination_by x y => x.length + y.length
decreasing_by all_goals (simp only [List.length_cons]; omega)
theorem td_cr_f (x y : List td_Op) (c : Int32) : td_cr false x (some (some c) :: y) = none :: td_cr false x y := by
  rcases x with _ | ⟨_ | _ | e, x⟩ <;> simp [td_cr]
theorem td_cr_t (x y : List td_Op) (c : Int32) : td_cr true (some (some c) :: y) x = some (some c) :: td_cr true y x := by
  rcases x with _ | ⟨_ | _ | e, x⟩ <;> simp [td_cr]
theorem td_jn_add (y w W : List td_Op) (c : Int32) : td_fo W (td_jn y (some (some c) :: w)) = td_fo W (some (some c) :: td_jn y w) := by
  induction y generalizing W with
  | nil => simp only [td_jn]
  | cons o y ih =>
    rcases o with _ | _ | e
    · simp only [td_jn]
    · simp only [td_jn, td_fo, td_pu, ih, td_ins]
    · simp only [td_jn]
theorem td_jn_sw (n : Nat) : ∀ (p y w W : List td_Op) (c : Int32), p.length + y.length ≤ n → td_fo W (td_jn y (p ++ some (some c) :: some none :: w)) = td_fo W (td_jn y (p ++ some none :: some (some c) :: w)) := by
  induction n with
  | zero =>
    intro p y w W c h
    have hp : p = [] := List.length_eq_zero_iff.mp (by omega)
    have hy : y = [] := List.length_eq_zero_iff.mp (by omega)
    subst hp; subst hy
    simp only [List.nil_append, td_jn, td_fo, td_pu, td_ins]
  | succ n ih =>
    intro p y w W c h
    rcases p with _ | ⟨o, p⟩
    · rcases y with _ | ⟨_ | _ | e, y⟩
      · simp only [List.nil_append, td_jn, td_fo, td_pu, td_ins]
      · simp only [List.nil_append, td_jn, td_fo, td_pu, td_jn_add, td_ins]
      · have := ih [] y w (some none :: W) c (by simp only [List.length_cons, List.length_nil] at h ⊢; omega)
        simp only [List.nil_append] at this
        simp only [List.nil_append, td_jn, td_fo, td_pu]
        exact this
      · simp only [List.nil_append, td_jn, td_fo, td_pu, td_jn_add, td_ins]
    · simp only [List.length_cons] at h
      rcases y with _ | ⟨_ | _ | e, y⟩
      · rcases o with _ | _ | k <;> simp only [List.cons_append, td_jn, td_fo, td_pu] <;> exact ih _ _ _ _ _ (by simp only [List.length_cons, List.length_nil] at h ⊢; omega)
      · rcases o with _ | _ | k <;> simp only [List.cons_append, td_jn, td_fo, td_pu] <;> exact ih _ _ _ _ _ (by simp only [List.length_cons, List.length_nil] at h ⊢; omega)
      · have := ih (o :: p) y w (some none :: W) c (by simp only [List.length_cons, List.length_nil] at h ⊢; omega)
        simp only [List.cons_append] at this
        simp only [List.cons_append, td_jn, td_fo, td_pu]
        exact this
      · rcases o with _ | _ | k <;> simp only [List.cons_append, td_jn, td_fo, td_pu] <;> exact ih _ _ _ _ _ (by simp only [List.length_cons, List.length_nil] at h ⊢; omega)
/-- what doesn't see the order of a letter and a drop doesn't see the normal form -/
theorem td_nfi {β : Type} (F : List td_Op → β) (sw : ∀ p w c, F (p ++ some (some c) :: some none :: w) = F (p ++ some none :: some (some c) :: w)) (c : Int32) (V w : List td_Op) : F ((td_ins c V).reverse ++ w) = F (V.reverse ++ some (some c) :: w) := by
  induction V generalizing w with
  | nil => simp [td_ins]
  | cons o V ih =>
    rcases o with _ | _ | e
    · simp [td_ins]
    · have h := ih (some none :: w)
      rw [sw] at h
      simpa [td_ins] using h
    · simp [td_ins]
theorem td_nfg {β : Type} (F : List td_Op → β) (sw : ∀ p w c, F (p ++ some (some c) :: some none :: w) = F (p ++ some none :: some (some c) :: w)) (w V : List td_Op) : F (td_fo V w).reverse = F (V.reverse ++ w) := by
  induction w generalizing V with
  | nil => simp [td_fo]
  | cons o w ih =>
    rcases o with _ | _ | c
    · simp [td_fo, td_pu, ih]
    · simp [td_fo, td_pu, ih]
    · simp only [td_fo, td_pu]
      rw [ih]
      exact td_nfi F sw c V w
theorem td_jn_nf (y w W : List td_Op) : td_fo W (td_jn y (td_fo [] w).reverse) = td_fo W (td_jn y w) :=
  td_nfg (fun l => td_fo W (td_jn y l)) (fun p w c => td_jn_sw _ p y w W c (Nat.le_refl _)) w []
/-- the diamond -/
theorem td_tp (n : Nat) : ∀ (x y W : List td_Op), x.length + y.length ≤ n → td_in x = td_in y → td_fo W (td_jn y (td_cr false x y)) = td_fo W (td_jn x (td_cr true y x)) := by
  induction n with
  | zero =>
    intro x y W h _
    have hx : x = [] := List.length_eq_zero_iff.mp (by omega)
    have hy : y = [] := List.length_eq_zero_iff.mp (by omega)
    subst hx; subst hy
    simp only [td_cr]
  | succ n ih =>
    intro x y W h hi
    rcases y with _ | ⟨_ | _ | c, y⟩
    · rcases x with _ | ⟨_ | _ | e, x⟩
      · simp only [td_cr]
      · simp only [td_in] at hi; omega
      · simp only [td_in] at hi; omega
      · simp only [td_cr, td_jn, td_fo, td_pu]
        exact ih _ _ _ (by simp only [List.length_cons] at h; omega) (by simp only [td_in] at hi ⊢; omega)
    · rcases x with _ | ⟨_ | _ | e, x⟩
      · simp only [td_in] at hi; omega
      · simp only [td_cr, td_jn, td_fo, td_pu]
        exact ih _ _ _ (by simp only [List.length_cons] at h; omega) (by simp only [td_in] at hi ⊢; omega)
      · simp only [td_cr, td_jn, td_fo, td_pu]
        exact ih _ _ _ (by simp only [List.length_cons] at h; omega) (by simp only [td_in] at hi ⊢; omega)
      · simp only [td_cr, td_jn, td_fo, td_pu]
        exact ih _ _ _ (by simp only [List.length_cons] at h ⊢; omega) (by simp only [td_in] at hi ⊢; omega)
    · rcases x with _ | ⟨_ | _ | e, x⟩
      · simp only [td_in] at hi; omega
      · simp only [td_cr, td_jn, td_fo, td_pu]
        exact ih _ _ _ (by simp only [List.length_cons] at h; omega) (by simp only [td_in] at hi ⊢; omega)
      · simp only [td_cr, td_jn, td_fo, td_pu]
        exact ih _ _ _ (by simp only [List.length_cons] at h; omega) (by simp only [td_in] at hi ⊢; omega)
      · have h2 := ih x (some none :: y) (td_ins e W) (by simp only [List.length_cons] at h ⊢; omega) (by simp only [td_in] at hi ⊢; omega)
        have e1 : td_cr false (some (some e) :: x) (some none :: y) = some (some e) :: td_cr false x (some none :: y) := by simp only [td_cr]
        have e2 : td_cr true (some none :: y) (some (some e) :: x) = none :: td_cr true (some none :: y) x := by simp only [td_cr]
        rw [e1, e2, td_jn_add]
        simp only [td_jn, td_fo, td_pu] at h2 ⊢
        exact h2
    · rw [td_cr_f, td_cr_t, td_jn_add]
      simp only [td_jn, td_fo, td_pu]
      exact ih _ _ _ (by simp only [List.length_cons] at h; omega) (by simp only [td_in] at hi ⊢; omega)
theorem td_n_jn (n : Nat) : ∀ (x y : List td_Op), x.length + y.length ≤ n → td_ou x = td_in y → td_in (td_jn x y) = td_in x ∧ td_ou (td_jn x y) = td_ou y := by
  induction n with
  | zero =>
    intro x y h _
    have hx : x = [] := List.length_eq_zero_iff.mp (by omega)
    have hy : y = [] := List.length_eq_zero_iff.mp (by omega)
    subst hx; subst hy
    simp [td_jn, td_in, td_ou]
  | succ n ih =>
    intro x y h hi
    rcases x with _ | ⟨_ | _ | e, x⟩
    · rcases y with _ | ⟨_ | _ | c, y⟩
      · simp [td_jn, td_in, td_ou]
      · simp only [td_in, td_ou] at hi; omega
      · simp only [td_in, td_ou] at hi; omega
      · simp only [td_in, td_ou, List.length_cons] at hi h
        have := ih [] y (by omega) (by simp only [td_ou]; omega)
        simp only [td_jn, td_in, td_ou] at this ⊢
        omega
    · rcases y with _ | ⟨_ | _ | c, y⟩
      · simp only [td_in, td_ou] at hi; omega
      · simp only [td_in, td_ou, List.length_cons] at hi h
        have := ih x y (by omega) (by omega)
        simp only [td_jn, td_in, td_ou]; omega
      · simp only [td_in, td_ou, List.length_cons] at hi h
        have := ih x y (by omega) (by omega)
        simp only [td_jn, td_in, td_ou]; omega
      · simp only [td_in, td_ou, List.length_cons] at hi h
        have := ih (none :: x) y (by simp only [List.length_cons]; omega) (by simp only [td_ou]; omega)
        simp only [td_jn, td_in, td_ou] at this ⊢; omega
    · simp only [td_in, td_ou, List.length_cons] at hi h
      have := ih x y (by omega) (by omega)
      simp only [td_jn, td_in, td_ou]; omega
    · rcases y with _ | ⟨_ | _ | c, y⟩
      · simp only [td_in, td_ou] at hi; omega
      · simp only [td_in, td_ou, List.length_cons] at hi h
        have := ih x y (by omega) (by omega)
        simp only [td_jn, td_in, td_ou]; omega
      · simp only [td_in, td_ou, List.length_cons] at hi h
        have := ih x y (by omega) (by omega)
        simp only [td_jn, td_in, td_ou]; omega
      · simp only [td_in, td_ou, List.length_cons] at hi h
        have := ih (some (some e) :: x) y (by simp only [List.length_cons]; omega) (by simp only [td_ou]; omega)
        simp only [td_jn, td_in, td_ou] at this ⊢; omega
theorem td_n_cr (f : Bool) (n : Nat) : ∀ (x y : List td_Op), x.length + y.length ≤ n → td_in x = td_in y → td_in (td_cr f x y) = td_ou y ∧ (td_lt (td_cr f x y)).length = (td_lt x).length := by
  induction n with
  | zero =>
    intro x y h _
    have hx : x = [] := List.length_eq_zero_iff.mp (by omega)
    have hy : y = [] := List.length_eq_zero_iff.mp (by omega)
    subst hx; subst hy
    simp [td_cr, td_in, td_ou]
  | succ n ih =>
    intro x y h hi
    rcases y with _ | ⟨_ | _ | c, y⟩
    · rcases x with _ | ⟨_ | _ | e, x⟩
      · simp [td_cr, td_in, td_ou]
      · simp only [td_in] at hi; omega
      · simp only [td_in] at hi; omega
      · simp only [td_in, List.length_cons] at hi h
        have := ih x [] (by simp only [List.length_nil] at h ⊢; omega) (by simp only [td_in]; omega)
        simp only [td_cr, td_in, td_ou, td_lt, List.length_cons] at this ⊢; omega
    · rcases x with _ | ⟨_ | _ | e, x⟩
      · simp only [td_in] at hi; omega
      · simp only [td_in, List.length_cons] at hi h
        have := ih x y (by omega) (by omega)
        simp only [td_cr, td_in, td_ou, td_lt] at this ⊢; omega
      · simp only [td_in, List.length_cons] at hi h
        have := ih x y (by omega) (by omega)
        simp only [td_cr, td_in, td_ou, td_lt] at this ⊢; omega
      · simp only [td_in, List.length_cons] at hi h
        have := ih x (none :: y) (by simp only [List.length_cons]; omega) (by simp only [td_in]; omega)
        simp only [td_cr, td_in, td_ou, td_lt, List.length_cons] at this ⊢; omega
    · rcases x with _ | ⟨_ | _ | e, x⟩
      · simp only [td_in] at hi; omega
      · simp only [td_in, List.length_cons] at hi h
        have := ih x y (by omega) (by omega)
        simp only [td_cr, td_in, td_ou, td_lt] at this ⊢; omega
      · simp only [td_in, List.length_cons] at hi h
        have := ih x y (by omega) (by omega)
        simp only [td_cr, td_in, td_ou, td_lt] at this ⊢; omega
      · simp only [td_in, List.length_cons] at hi h
        have := ih x (some none :: y) (by simp only [List.length_cons]; omega) (by simp only [td_in]; omega)
        simp only [td_cr, td_in, td_ou, td_lt, List.length_cons] at this ⊢; omega
    · rcases x with _ | ⟨_ | _ | e, x⟩
      · simp only [td_in, List.length_cons] at hi h
        have := ih [] y (by omega) (by simp only [td_in]; omega)
        simp only [td_cr, td_in, td_ou, td_lt] at this ⊢; omega
      · simp only [td_in, List.length_cons] at hi h
        have := ih (none :: x) y (by simp only [List.length_cons]; omega) (by simp only [td_in]; omega)
        simp only [td_cr, td_in, td_ou, td_lt] at this ⊢; omega
      · simp only [td_in, List.length_cons] at hi h
        have := ih (some none :: x) y (by simp only [List.length_cons]; omega) (by simp only [td_in]; omega)
        simp only [td_cr, td_in, td_ou, td_lt] at this ⊢; omega
      · simp only [td_in, List.length_cons] at hi h
        cases f
        · have := ih (some (some e) :: x) y (by simp only [List.length_cons]; omega) (by simp only [td_in]; omega)
          rw [td_cr_f]
          simp only [td_in, td_ou, td_lt, List.length_cons] at this ⊢; omega
        · have := ih x (some (some c) :: y) (by simp only [List.length_cons]; omega) (by simp only [td_in]; omega)
          rw [td_cr_t]
          simp only [td_in, td_ou, td_lt, List.length_cons] at this ⊢; omega
def td_ap : List td_Op → List Int32 → List Int32
  | [], _ => []
  | none :: x, [] => td_ap x []
  | none :: x, c :: t => c :: td_ap x t
  | some none :: x, [] => td_ap x []
  | some none :: x, _ :: t => td_ap x t
  | some (some e) :: x, t => e :: td_ap x t
def td_iv : List td_Op → List Int32 → List td_Op
  | [], _ => []
  | none :: x, [] => none :: td_iv x []
  | none :: x, _ :: t => none :: td_iv x t
  | some none :: x, [] => td_iv x []
  | some none :: x, c :: t => some (some c) :: td_iv x t
  | some (some _) :: x, t => some none :: td_iv x t
theorem td_ap_sw (p w : List td_Op) (c : Int32) (t : List Int32) : td_ap (p ++ some (some c) :: some none :: w) t = td_ap (p ++ some none :: some (some c) :: w) t := by
  induction p generalizing t with
  | nil => cases t <;> simp only [List.nil_append, td_ap]
  | cons o p ih => rcases o with _ | _ | e <;> cases t <;> simp only [List.cons_append, td_ap, ih]
theorem td_ap_nf (w : List td_Op) (t : List Int32) : td_ap (td_fo [] w).reverse t = td_ap w t :=
  td_nfg (fun l => td_ap l t) (fun p w c => td_ap_sw p w c t) w []
theorem td_ap_iv (x : List td_Op) (t : List Int32) (h : td_in x = t.length) : td_ap (td_iv x t) (td_ap x t) = t := by
  induction x generalizing t with
  | nil =>
    simp only [td_in] at h
    have : t = [] := List.length_eq_zero_iff.mp h.symm
    subst this
    rfl
  | cons o x ih =>
    rcases o with _ | _ | e
    · cases t with
      | nil => simp only [td_in, List.length_nil] at h; omega
      | cons c t => simp only [td_iv, td_ap]; rw [ih t (by simp only [td_in, List.length_cons] at h; omega)]
    · cases t with
      | nil => simp only [td_in, List.length_nil] at h; omega
      | cons c t => simp only [td_iv, td_ap]; rw [ih t (by simp only [td_in, List.length_cons] at h; omega)]
    · simp only [td_iv, td_ap]; rw [ih t (by simp only [td_in] at h; omega)]
theorem td_n_ap (x : List td_Op) (t : List Int32) (h : td_in x = t.length) : (td_ap x t).length = td_ou x ∧ td_in (td_iv x t) = td_ou x ∧ td_ou (td_iv x t) = td_in x := by
  induction x generalizing t with
  | nil => simp [td_ap, td_iv, td_in, td_ou]
  | cons o x ih =>
    rcases o with _ | _ | e
    · cases t with
      | nil => simp only [td_in, List.length_nil] at h; omega
      | cons c t =>
        have := ih t (by simp only [td_in, List.length_cons] at h; omega)
        simp only [td_ap, td_iv, td_in, td_ou, List.length_cons]; omega
    · cases t with
      | nil => simp only [td_in, List.length_nil] at h; omega
      | cons c t =>
        have := ih t (by simp only [td_in, List.length_cons] at h; omega)
        simp only [td_ap, td_iv, td_in, td_ou, List.length_cons]; omega
    · have := ih t (by simp only [td_in] at h; omega)
      simp only [td_ap, td_iv, td_in, td_ou, List.length_cons]; omega
/-- undoing gives the old text back -/
theorem td_undo (x : List td_Op) (t : List Int32) (h : td_in x = t.length) : td_ap (td_fo [] (td_iv x t)).reverse (td_ap x t) = t := by
  rw [td_ap_nf, td_ap_iv x t h]
end
section
/-! Part 02: runs, the normal form's bound, arrays that hold runs and letters. -/
def td_ok : td_Op → List td_Op → Prop
  | some (some _), some none :: _ => False
  | _, _ => True
def td_nf : List td_Op → Prop
  | [] => True
  | o :: W => td_ok o W ∧ td_nf W
theorem td_nf_ins (c : Int32) (W : List td_Op) (h : td_nf W) : td_nf (td_ins c W) := by
  induction W with
  | nil => exact ⟨trivial, trivial⟩
  | cons o W ih =>
    rcases o with _ | _ | e
    · exact ⟨trivial, h⟩
    · exact ⟨trivial, ih h.2⟩
    · exact ⟨trivial, h⟩
theorem td_nf_fo (l W : List td_Op) (h : td_nf W) : td_nf (td_fo W l) := by
  induction l generalizing W with
  | nil => exact h
  | cons o l ih =>
    rcases o with _ | _ | c
    · exact ih _ ⟨trivial, h⟩
    · exact ih _ ⟨trivial, h⟩
    · exact ih _ (td_nf_ins c W h)
def td_gr (k : Int32) (n : Nat) : List (Int32 × Nat) → List (Int32 × Nat)
  | [] => [(k, n)]
  | r :: R => if r.1 = k then (r.1, r.2 + n) :: R else (k, n) :: r :: R
def td_rr : List td_Op → List (Int32 × Nat)
  | [] => []
  | o :: W => td_gr (td_kd o) 1 (td_rr W)
def td_lk : List (Int32 × Nat) → Int32
  | [] => 0
  | r :: _ => r.1
theorem td_kd0 (o : td_Op) : td_kd o ≠ 0 := by
  rcases o with _ | _ | c
  · show (1 : Int32) ≠ 0; decide
  · show (2 : Int32) ≠ 0; decide
  · show (3 : Int32) ≠ 0; decide
theorem td_lk_gr (k : Int32) (n : Nat) (R : List (Int32 × Nat)) : td_lk (td_gr k n R) = k := by
  cases R with
  | nil => rfl
  | cons r R =>
    simp only [td_gr]
    by_cases h : r.1 = k
    · rw [if_pos h]; exact h
    · rw [if_neg h]; rfl
theorem td_lk_rr (o : td_Op) (W : List td_Op) : td_lk (td_rr (o :: W)) = td_kd o := td_lk_gr _ _ _
theorem td_gr_len {k : Int32} (hk : k ≠ 0) (n : Nat) (R : List (Int32 × Nat)) : (td_gr k n R).length = if td_lk R = k then R.length else R.length + 1 := by
  cases R with
  | nil =>
    have : ¬ td_lk [] = k := fun z => hk z.symm
    rw [if_neg this]; rfl
  | cons r R =>
    simp only [td_gr]
    by_cases h : r.1 = k
    · have h' : td_lk (r :: R) = k := h
      rw [if_pos h, if_pos h']; rfl
    · have h' : ¬ td_lk (r :: R) = k := h
      rw [if_neg h, if_neg h']; rfl
theorem td_gr_le (k : Int32) (n : Nat) (R : List (Int32 × Nat)) : (td_gr k n R).length ≤ R.length + 1 := by
  cases R with
  | nil => exact Nat.le_refl _
  | cons r R =>
    simp only [td_gr]
    by_cases h : r.1 = k
    · rw [if_pos h]; simp only [List.length_cons]; omega
    · rw [if_neg h]; simp only [List.length_cons]; omega
theorem td_gr_gr (k : Int32) (n m : Nat) (R : List (Int32 × Nat)) : td_gr k n (td_gr k m R) = td_gr k (m + n) R := by
  cases R with
  | nil => simp [td_gr]
  | cons r R =>
    by_cases h : r.1 = k
    · simp [td_gr, h, Nat.add_assoc]
    · simp [td_gr, h]
theorem td_rr_rep (o : td_Op) (n : Nat) (W : List td_Op) : td_rr (List.replicate (n + 1) o ++ W) = td_gr (td_kd o) (n + 1) (td_rr W) := by
  induction n with
  | zero => rfl
  | succ n ih =>
    have e : List.replicate (n + 1 + 1) o ++ W = o :: (List.replicate (n + 1) o ++ W) := by
      rw [List.replicate_succ, List.cons_append]
    rw [e]
    show td_gr (td_kd o) 1 (td_rr (List.replicate (n + 1) o ++ W)) = _
    rw [ih, td_gr_gr]
theorem td_rr_le (W : List td_Op) : (td_rr W).length ≤ W.length := by
  induction W with
  | nil => exact Nat.le_refl 0
  | cons o W ih =>
    have := td_gr_le (td_kd o) 1 (td_rr W)
    simp only [td_rr, List.length_cons]; omega
def td_ph : List td_Op → Nat
  | [] => 0
  | none :: _ => 0
  | some none :: _ => 2
  | some (some _) :: _ => 1
theorem td_cap (W : List td_Op) (h : td_nf W) : 4 * (td_rr W).length ≤ 3 * (td_in W + td_ou W) + td_ph W := by
  induction W with
  | nil => exact Nat.le_refl 0
  | cons o W ih =>
    have i := ih h.2
    have k := h.1
    have l1 : (td_rr (o :: W)).length ≤ (td_rr W).length + 1 := td_gr_le (td_kd o) 1 (td_rr W)
    have l2 : td_lk (td_rr W) = td_kd o → (td_rr (o :: W)).length = (td_rr W).length := by
      intro z
      have l := td_gr_len (td_kd0 o) 1 (td_rr W)
      rw [if_pos z] at l
      exact l
    rcases W with _ | ⟨o', W⟩
    · have l3 : (td_rr []).length = 0 := rfl
      rcases o with _ | _ | c <;> simp only [td_in, td_ou, td_ph] <;> omega
    · rw [td_lk_rr] at l2
      rcases o with _ | _ | c <;> rcases o' with _ | _ | c' <;> simp only [td_in, td_ou, td_ph] at i ⊢ <;> first | exact absurd k id | (have := l2 rfl; omega) | omega
theorem td_cap60 {W : List td_Op} (h : td_nf W) (hi : td_in W ≤ 40) (ho : td_ou W ≤ 40) : (td_rr W).length ≤ 60 := by
  have := td_cap W h
  have p : td_ph W ≤ 2 := by
    rcases W with _ | ⟨_ | _ | c, W⟩ <;> simp [td_ph]
  omega
theorem td_tail (W : List td_Op) : ∃ j W0, W = List.replicate j (some none) ++ W0 ∧ td_lk (td_rr W0) ≠ 2 ∧ ∀ c, td_ins c W = List.replicate j (some none) ++ some (some c) :: W0 := by
  induction W with
  | nil => exact ⟨0, [], rfl, (by show (0 : Int32) ≠ 2; decide), fun c => rfl⟩
  | cons o W ih =>
    rcases o with _ | _ | e
    · exact ⟨0, none :: W, rfl, (by rw [td_lk_rr]; show (1 : Int32) ≠ 2; decide), fun c => rfl⟩
    · obtain ⟨j, W0, h1, h2, h3⟩ := ih
      refine ⟨j + 1, W0, ?_, h2, fun c => ?_⟩
      · rw [List.replicate_succ, List.cons_append, ← h1]
      · rw [List.replicate_succ, List.cons_append, ← h3 c]; rfl
    · exact ⟨0, some (some e) :: W, rfl, (by rw [td_lk_rr]; show (3 : Int32) ≠ 2; decide), fun c => rfl⟩
def td_rv (a5 a6 : Nat → Int32) (o : Nat) : List (Int32 × Nat) → Prop
  | [] => True
  | r :: R => a5 (o + R.length) = r.1 ∧ a6 (o + R.length) = nI r.2 ∧ td_rv a5 a6 o R
def td_lv (a : Nat → Int32) (o : Nat) : List Int32 → Prop
  | [] => True
  | c :: l => a (o + l.length) = c ∧ td_lv a o l
theorem td_rv_cp {a5 a6 b5 b6 : Nat → Int32} {o o' : Nat} (R : List (Int32 × Nat)) (h : td_rv a5 a6 o R) (e : ∀ i, i < R.length → b5 (o' + i) = a5 (o + i) ∧ b6 (o' + i) = a6 (o + i)) : td_rv b5 b6 o' R := by
  induction R with
  | nil => trivial
  | cons r R ih =>
    have e1 := e R.length (by simp only [List.length_cons]; omega)
    exact ⟨by rw [e1.1]; exact h.1, by rw [e1.2]; exact h.2.1, ih h.2.2 (fun i hi => e i (by simp only [List.length_cons]; omega))⟩
theorem td_rv_two {a5 a6 : Nat → Int32} {o o' : Nat} (R : List (Int32 × Nat)) (h : td_rv a5 a6 o R) (h' : td_rv a5 a6 o' R) : ∀ i, i < R.length → a5 (o + i) = a5 (o' + i) ∧ a6 (o + i) = a6 (o' + i) := by
  induction R with
  | nil => intro i hi; exact absurd hi (Nat.not_lt_zero i)
  | cons r R ih =>
    intro i hi
    by_cases e : i = R.length
    · subst e
      exact ⟨by rw [h.1, h'.1], by rw [h.2.1, h'.2.1]⟩
    · exact ih h.2.2 h'.2.2 i (by simp only [List.length_cons] at hi; omega)
theorem td_lv_cp {a b : Nat → Int32} {o o' : Nat} (l : List Int32) (h : td_lv a o l) (e : ∀ i, i < l.length → b (o' + i) = a (o + i)) : td_lv b o' l := by
  induction l with
  | nil => trivial
  | cons c l ih =>
    have e1 := e l.length (by simp only [List.length_cons]; omega)
    exact ⟨by rw [e1]; exact h.1, ih h.2 (fun i hi => e i (by simp only [List.length_cons]; omega))⟩
theorem td_lv_two {a : Nat → Int32} {o o' : Nat} (l : List Int32) (h : td_lv a o l) (h' : td_lv a o' l) : ∀ i, i < l.length → a (o + i) = a (o' + i) := by
  induction l with
  | nil => intro i hi; exact absurd hi (Nat.not_lt_zero i)
  | cons c l ih =>
    intro i hi
    by_cases e : i = l.length
    · subst e
      rw [h.1, h'.1]
    · exact ih h.2 h'.2 i (by simp only [List.length_cons] at hi; omega)
/-- a list forward in an array -/
def td_sg (a : Nat → Int32) : Nat → List Int32 → Prop
  | _, [] => True
  | f, c :: l => a f = c ∧ td_sg a (f + 1) l
theorem td_sg_app {a : Nat → Int32} (l l' : List Int32) (f : Nat) : td_sg a f (l ++ l') ↔ td_sg a f l ∧ td_sg a (f + l.length) l' := by
  induction l generalizing f with
  | nil => simp [td_sg]
  | cons c l ih =>
    simp only [List.cons_append, td_sg, ih, List.length_cons]
    rw [show f + 1 + l.length = f + (l.length + 1) by omega, and_assoc]
theorem td_sg_cp {a b : Nat → Int32} (l : List Int32) {f f' : Nat} (h : td_sg a f l) (e : ∀ i, i < l.length → b (f' + i) = a (f + i)) : td_sg b f' l := by
  induction l generalizing f f' with
  | nil => trivial
  | cons c l ih =>
    refine ⟨by rw [show f' = f' + 0 from rfl, e 0 (by simp only [List.length_cons]; omega)]; exact h.1, ih h.2 (fun i hi => ?_)⟩
    have := e (i + 1) (by simp only [List.length_cons]; omega)
    rw [show f' + 1 + i = f' + (i + 1) by omega, show f + 1 + i = f + (i + 1) by omega]
    exact this
theorem td_lv_sg {a : Nat → Int32} (l : List Int32) {o : Nat} (h : td_lv a o l) : td_sg a o l.reverse := by
  induction l with
  | nil => trivial
  | cons c l ih =>
    rw [List.reverse_cons, td_sg_app]
    refine ⟨ih h.2, ?_, trivial⟩
    rw [List.length_reverse]; exact h.1
/-- what m runs from place p on say, forward -/
def td_fu (a5 a6 : Nat → Int32) : Nat → Nat → List td_Op → Prop
  | 0, _, x => x = []
  | m + 1, p, x => ∃ n x1 x2, a6 p = nI n ∧ 1 ≤ n ∧ x = x1 ++ x2 ∧ x1.length = n ∧ (∀ o, o ∈ x1 → td_kd o = a5 p) ∧ td_fu a5 a6 m (p + 1) x2
theorem td_fu_snoc {a5 a6 : Nat → Int32} (m : Nat) {p n : Nat} {x x1 : List td_Op} (h : td_fu a5 a6 m p x) (h6 : a6 (p + m) = nI n) (hn : 1 ≤ n) (hl : x1.length = n) (hk : ∀ o, o ∈ x1 → td_kd o = a5 (p + m)) : td_fu a5 a6 (m + 1) p (x ++ x1) := by
  induction m generalizing p x with
  | zero =>
    have hx : x = [] := h
    subst hx
    exact ⟨n, x1, [], h6, hn, by simp, hl, hk, rfl⟩
  | succ m ih =>
    obtain ⟨n', y1, y2, e6, en, ex, el, ek, ef⟩ := h
    refine ⟨n', y1, y2 ++ x1, e6, en, by rw [ex, List.append_assoc], el, ek, ?_⟩
    refine ih ef ?_ ?_
    · rw [show p + 1 + m = p + (m + 1) by omega]; exact h6
    · rw [show p + 1 + m = p + (m + 1) by omega]; exact hk
theorem td_rr_cons (W : List td_Op) {r : Int32 × Nat} {R : List (Int32 × Nat)} (h : td_rr W = r :: R) : ∃ W1 W2, W = W1 ++ W2 ∧ W1.length = r.2 ∧ 1 ≤ r.2 ∧ (∀ o, o ∈ W1 → td_kd o = r.1) ∧ td_rr W2 = R := by
  induction W generalizing r R with
  | nil => simp [td_rr] at h
  | cons o W ih =>
    simp only [td_rr] at h
    cases hR : td_rr W with
    | nil =>
      rw [hR] at h
      simp only [td_gr, List.cons.injEq] at h
      obtain ⟨rfl, rfl⟩ := h
      exact ⟨[o], W, rfl, rfl, Nat.le_refl 1, fun o' ho => by rw [List.mem_singleton.mp ho], hR⟩
    | cons s S =>
      rw [hR] at h
      simp only [td_gr] at h
      by_cases e : s.1 = td_kd o
      · rw [if_pos e] at h
        simp only [List.cons.injEq] at h
        obtain ⟨rfl, rfl⟩ := h
        obtain ⟨W1, W2, h1, h2, h3, h4, h5⟩ := ih hR
        refine ⟨o :: W1, W2, by rw [h1, List.cons_append], by rw [List.length_cons, h2], by omega, fun o' ho => ?_, h5⟩
        rcases List.mem_cons.mp ho with z | z
        · rw [z]; exact e.symm
        · exact h4 o' z
      · rw [if_neg e] at h
        simp only [List.cons.injEq] at h
        obtain ⟨rfl, rfl⟩ := h
        exact ⟨[o], W, rfl, rfl, Nat.le_refl 1, fun o' ho => by rw [List.mem_singleton.mp ho], hR⟩
theorem td_rv_fu {a5 a6 : Nat → Int32} {o : Nat} (R : List (Int32 × Nat)) : ∀ W, td_rr W = R → td_rv a5 a6 o R → td_fu a5 a6 R.length o W.reverse := by
  induction R with
  | nil =>
    intro W h _
    cases W with
    | nil => rfl
    | cons o' W =>
      exfalso
      have l := td_gr_len (td_kd0 o') 1 (td_rr W)
      have hl := congrArg List.length h
      simp only [td_rr] at hl
      rw [l] at hl
      by_cases z : td_lk (td_rr W) = td_kd o'
      · rw [if_pos z] at hl
        have hz : td_rr W = [] := List.length_eq_zero_iff.mp hl
        rw [hz] at z
        exact td_kd0 o' z.symm
      · rw [if_neg z] at hl
        simp at hl
  | cons r R ih =>
    intro W h hv
    obtain ⟨W1, W2, h1, h2, h3, h4, h5⟩ := td_rr_cons W h
    rw [h1, List.reverse_append]
    refine td_fu_snoc R.length (ih W2 h5 hv.2.2) hv.2.1 h3 (by rw [List.length_reverse]; exact h2) (fun o' ho => ?_)
    rw [hv.1]
    exact h4 o' (List.mem_reverse.mp ho)
end
section
/-! Part 03: walks that write runs: wipe, lastKind, grow, putKeep, putDrop, putAdd. -/
section
variable {q0 q1 q2 q3 q4 q5 q6 q7 q8 q9 : Int32} {a1 a2 a3 a4 a5 a6 a7 a8 a9 : Nat → Int32}
/-- delta d of the arrays holds the units W (newest first) -/
def td_dl (a2 a3 a4 a5 a6 a7 : Nat → Int32) (d : Nat) (W : List td_Op) : Prop :=
  a2 d = nI (td_ou W) ∧ a3 d = nI (td_rr W).length ∧ a4 d = nI (td_lt W).length ∧ td_rv a5 a6 (d * 64) (td_rr W) ∧ td_lv a7 (d * 40) (td_lt W)
/-- delta e's storage is the same -/
def td_sd (a1 a2 a3 a4 a5 a6 a7 b1 b2 b3 b4 b5 b6 b7 : Nat → Int32) (e : Nat) : Prop :=
  b1 e = a1 e ∧ b2 e = a2 e ∧ b3 e = a3 e ∧ b4 e = a4 e ∧ (∀ i, i < 64 → b5 (e * 64 + i) = a5 (e * 64 + i) ∧ b6 (e * 64 + i) = a6 (e * 64 + i)) ∧ (∀ i, i < 40 → b7 (e * 40 + i) = a7 (e * 40 + i))
theorem td_sd_rfl (a1 a2 a3 a4 a5 a6 a7 : Nat → Int32) (e : Nat) : td_sd a1 a2 a3 a4 a5 a6 a7 a1 a2 a3 a4 a5 a6 a7 e :=
  ⟨rfl, rfl, rfl, rfl, fun _ _ => ⟨rfl, rfl⟩, fun _ _ => rfl⟩
theorem td_sd_tr {b1 b2 b3 b4 b5 b6 b7 c1 c2 c3 c4 c5 c6 c7 : Nat → Int32} {e : Nat} (h : td_sd a1 a2 a3 a4 a5 a6 a7 b1 b2 b3 b4 b5 b6 b7 e) (g : td_sd b1 b2 b3 b4 b5 b6 b7 c1 c2 c3 c4 c5 c6 c7 e) : td_sd a1 a2 a3 a4 a5 a6 a7 c1 c2 c3 c4 c5 c6 c7 e := by
  obtain ⟨h1, h2, h3, h4, h5, h6⟩ := h
  obtain ⟨g1, g2, g3, g4, g5, g6⟩ := g
  exact ⟨g1.trans h1, g2.trans h2, g3.trans h3, g4.trans h4, fun i hi => ⟨(g5 i hi).1.trans (h5 i hi).1, (g5 i hi).2.trans (h5 i hi).2⟩, fun i hi => (g6 i hi).trans (h6 i hi)⟩
theorem td_dl_sd {b1 b2 b3 b4 b5 b6 b7 : Nat → Int32} {e : Nat} {W : List td_Op} (h : td_dl a2 a3 a4 a5 a6 a7 e W) (hr : (td_rr W).length ≤ 64) (hl : (td_lt W).length ≤ 40) (s : td_sd a1 a2 a3 a4 a5 a6 a7 b1 b2 b3 b4 b5 b6 b7 e) : td_dl b2 b3 b4 b5 b6 b7 e W := by
  obtain ⟨h1, h2, h3, h4, h5⟩ := h
  obtain ⟨_, g2, g3, g4, g5, g6⟩ := s
  exact ⟨by rw [g2]; exact h1, by rw [g3]; exact h2, by rw [g4]; exact h3, td_rv_cp _ h4 (fun i hi => g5 i (by omega)), td_lv_cp _ h5 (fun i hi => g6 i (by omega))⟩
theorem td_e64 (d n : Nat) : nI d * 64 + nI n = nI (d * 64 + n) := by
  show nI d * nI 64 + nI n = _
  rw [pk_mul, nI_add]
theorem td_e64m (d n : Nat) : nI d * 64 + nI (n + 1) - 1 = nI (d * 64 + n) := by
  rw [td_e64]
  exact nI_pred (d * 64 + n)
theorem td_e40 (d n : Nat) : nI d * 40 + nI n = nI (d * 40 + n) := by
  show nI d * nI 40 + nI n = _
  rw [pk_mul, nI_add]
theorem td_m64 (d : Nat) : nI d * 64 = nI (d * 64) := pk_mul d 64
theorem td_m40 (d : Nat) : nI d * 40 = nI (d * 40) := pk_mul d 40
theorem td_z (k : Nat) : (0 : Int32) + nI k = nI k := by
  show nI 0 + nI k = nI k
  rw [nI_add, Nat.zero_add]
theorem td_slot {post : Int32 → Prop} {s : Nat} (hs : s < 4) (h : post 1) : wpX_slot post (q0, q1, q2, q3, q4, q5, q6, q7, q8, q9, a1, a2, a3, a4, a5, a6, a7, a8, a9) (nI s) :=
  br_f (nI_pos (by omega)) (br_f (nI_nlt (a := 3) (b := s) (by omega) (by omega)) h)
theorem td_wipe {post : St1 → Prop} {d : Nat} (hd : d < 6) (m : Int32) (h : post (q0, q1, q2, q3, q4, q5, q6, q7, q8, q9, (upd a1 d m), (upd a2 d 0), (upd a3 d 0), (upd a4 d 0), a5, a6, a7, a8, a9)) : wpX_wipe post (q0, q1, q2, q3, q4, q5, q6, q7, q8, q9, a1, a2, a3, a4, a5, a6, a7, a8, a9) (nI d) m := by
  unfold wpX_wipe
  dsimp only
  rw [nI_clamp (show d < 2 ^ 31 by omega)]
  have v : vp_in (nI d) 6 := vp_in_nI hd (by omega)
  exact ⟨v, nm_e ⟨v, nm_e ⟨v, nm_e ⟨v, nm_e h⟩⟩⟩⟩
theorem td_lastKind {post : Int32 → Prop} {d : Nat} {R : List (Int32 × Nat)} (hd : d < 6) (h3 : a3 d = nI R.length) (hr : td_rv a5 a6 (d * 64) R) (hb : d * 64 + R.length ≤ 448) (h : post (td_lk R)) : wpX_lastKind post (q0, q1, q2, q3, q4, q5, q6, q7, q8, q9, a1, a2, a3, a4, a5, a6, a7, a8, a9) (nI d) := by
  unfold wpX_lastKind
  dsimp only
  rw [nI_clamp (show d < 2 ^ 31 by omega), h3]
  have v : vp_in (nI d) 6 := vp_in_nI hd (by omega)
  refine ⟨v, ?_⟩
  cases R with
  | nil => exact br_t rfl h
  | cons r R =>
    simp only [List.length_cons] at hb ⊢
    refine br_f (nI_ne0 (by omega) (by omega)) ⟨v, ?_⟩
    rw [td_e64m, nI_clamp (show d * 64 + R.length < 2 ^ 31 by omega)]
    refine ⟨vp_in_nI (by omega) (by omega), ?_⟩
    rw [hr.1]
    exact h
theorem td_grow61 {post : St1 → Prop} {d n : Nat} {k : Int32} (hd : d < 6) (h3 : a3 d = nI (n + 1)) (hb : d * 64 + n < 448) (h : post (q0, q1, q2, q3, q4, q5, q6, q7, q8, q9, a1, a2, a3, a4, a5, (upd a6 (d * 64 + n) (a6 (d * 64 + n) + k)), a7, a8, a9)) : wX_grow_61 post (nI d) k q0 q1 q2 q3 q4 q5 q6 q7 q8 q9 a1 a2 a3 a4 a5 a6 a7 a8 a9 := by
  unfold wX_grow_61
  rw [nI_clamp (show d < 2 ^ 31 by omega), h3]
  refine ⟨vp_in_nI hd (by omega), nm_r (td_e64m d n) ?_⟩
  rw [nI_clamp (show d * 64 + n < 2 ^ 31 by omega)]
  have v : vp_in (nI (d * 64 + n)) 448 := vp_in_nI hb (by omega)
  exact ⟨v, v, nm_e h⟩
theorem td_gr_new {w : Int32} {k : Nat} {R : List (Int32 × Nat)} (hw : w ≠ 0) (h : td_lk R ≠ w) : td_gr w k R = (w, k) :: R := by
  cases R with
  | nil => rfl
  | cons r R =>
    simp only [td_gr]
    have h' : ¬ r.1 = w := h
    rw [if_neg h']
theorem td_grow {d : Nat} {R : List (Int32 × Nat)} {w : Int32} (hd : d < 6) (h3 : a3 d = nI R.length) (hr : td_rv a5 a6 (d * 64) R) (hb : d * 64 + R.length < 448) (hw : w ≠ 0) (k : Nat) :
    ∃ b3 b5 b6 : Nat → Int32, b3 d = nI (td_gr w k R).length ∧ td_rv b5 b6 (d * 64) (td_gr w k R) ∧ (∀ j, j ≠ d → b3 j = a3 j) ∧ (∀ j, j < d * 64 → b5 j = a5 j ∧ b6 j = a6 j) ∧
      ∀ post : St1 → Prop, post (q0, q1, q2, q3, q4, q5, q6, q7, q8, q9, a1, a2, b3, a4, b5, b6, a7, a8, a9) → wpX_grow post (q0, q1, q2, q3, q4, q5, q6, q7, q8, q9, a1, a2, a3, a4, a5, a6, a7, a8, a9) (nI d) w (nI k) := by
  have v : vp_in (nI d) 6 := vp_in_nI hd (by omega)
  by_cases hne : td_lk R = w
  · cases R with
    | nil => exact absurd hne.symm hw
    | cons r R =>
      have hne' : r.1 = w := hne
      have eg : td_gr w k (r :: R) = (r.1, r.2 + k) :: R := by
        simp only [td_gr]
        rw [if_pos hne']
      simp only [List.length_cons] at h3 hb
      refine ⟨a3, a5, upd a6 (d * 64 + R.length) (a6 (d * 64 + R.length) + nI k), ?_, ?_, fun _ _ => rfl, fun j hj => ⟨rfl, pk_un (by omega)⟩, fun post hp => ?_⟩
      · rw [eg]; exact h3
      · rw [eg]
        refine ⟨hr.1, ?_, td_rv_cp R hr.2.2 (fun i hi => ⟨rfl, pk_un (by omega)⟩)⟩
        rw [pk_us, hr.2.1, nI_add]
      · unfold wpX_grow
        dsimp only
        exact td_lastKind (R := r :: R) hd h3 hr (by simp only [List.length_cons]; omega) (br_t hne (td_grow61 hd h3 (by omega) hp))
  · have eg := td_gr_new (k := k) hw hne
    refine ⟨upd a3 d (nI R.length + 1), upd a5 (d * 64 + R.length) w, upd (upd a6 (d * 64 + R.length) 0) (d * 64 + R.length) (upd a6 (d * 64 + R.length) 0 (d * 64 + R.length) + nI k), ?_, ?_, fun j hj => pk_un hj, fun j hj => ⟨pk_un (by omega), by rw [pk_un (by omega), pk_un (by omega)]⟩, fun post hp => ?_⟩
    · rw [eg, pk_us, nI_1]; rfl
    · rw [eg]
      refine ⟨pk_us, ?_, td_rv_cp R hr (fun i hi => ⟨pk_un (by omega), by rw [pk_un (by omega), pk_un (by omega)]⟩)⟩
      rw [pk_us, pk_us, td_z]
    · unfold wpX_grow
      dsimp only
      refine td_lastKind hd h3 hr (by omega) (br_f hne ?_)
      rw [nI_clamp (show d < 2 ^ 31 by omega), h3, td_e64, nI_clamp (show d * 64 + R.length < 2 ^ 31 by omega)]
      have v2 : vp_in (nI (d * 64 + R.length)) 448 := vp_in_nI hb (by omega)
      refine ⟨v, v2, nm_e ⟨v, v2, nm_e ⟨v, v, nm_e ?_⟩⟩⟩
      exact td_grow61 hd (by rw [pk_us, nI_1]) hb hp
theorem td_in_K (n : Nat) : td_in (List.replicate n none) = n := by
  induction n with
  | zero => rfl
  | succ n ih => rw [List.replicate_succ]; simp only [td_in, ih]
theorem td_ou_K (n : Nat) : td_ou (List.replicate n none) = n := by
  induction n with
  | zero => rfl
  | succ n ih => rw [List.replicate_succ]; simp only [td_ou, ih]
theorem td_lt_K (n : Nat) : td_lt (List.replicate n none) = [] := by
  induction n with
  | zero => rfl
  | succ n ih => rw [List.replicate_succ]; simp only [td_lt, ih]
theorem td_in_D (n : Nat) : td_in (List.replicate n (some none)) = n := by
  induction n with
  | zero => rfl
  | succ n ih => rw [List.replicate_succ]; simp only [td_in, ih]
theorem td_ou_D (n : Nat) : td_ou (List.replicate n (some none)) = 0 := by
  induction n with
  | zero => rfl
  | succ n ih => rw [List.replicate_succ]; simp only [td_ou, ih]
theorem td_lt_D (n : Nat) : td_lt (List.replicate n (some none)) = [] := by
  induction n with
  | zero => rfl
  | succ n ih => rw [List.replicate_succ]; simp only [td_lt, ih]
theorem td_putKeep {d : Nat} {W : List td_Op} (hd : d < 6) (h : td_dl a2 a3 a4 a5 a6 a7 d W) (hb : d * 64 + (td_rr W).length < 448) (k : Nat) (hk : k < 2 ^ 31) :
    ∃ b2 b3 b5 b6 : Nat → Int32, td_dl b2 b3 a4 b5 b6 a7 d (List.replicate k none ++ W) ∧ (∀ e, e < d → td_sd a1 a2 a3 a4 a5 a6 a7 a1 b2 b3 a4 b5 b6 a7 e) ∧
      ∀ post : St1 → Prop, post (q0, q1, q2, q3, q4, q5, q6, q7, q8, q9, a1, b2, b3, a4, b5, b6, a7, a8, a9) → wpX_putKeep post (q0, q1, q2, q3, q4, q5, q6, q7, q8, q9, a1, a2, a3, a4, a5, a6, a7, a8, a9) (nI d) (nI k) := by
  have v : vp_in (nI d) 6 := vp_in_nI hd (by omega)
  cases k with
  | zero => exact ⟨a2, a3, a5, a6, h, fun e _ => td_sd_rfl _ _ _ _ _ _ _ e, fun post hp => br_t (by decide) hp⟩
  | succ n =>
    obtain ⟨h1, h2, h3, h4, h5⟩ := h
    obtain ⟨b3, b5, b6, g1, g2, g3, g4, gw⟩ := @td_grow q0 q1 q2 q3 q4 q5 q6 q7 q8 q9 a1 a2 a3 a4 a5 a6 a7 a8 a9 d _ 1 hd h2 h4 hb (by decide) (n + 1)
    refine ⟨upd a2 d (a2 d + nI (n + 1)), b3, b5, b6, ⟨?_, ?_, ?_, ?_, ?_⟩, fun e he => ⟨rfl, pk_un (by omega), g3 e (by omega), rfl, fun i hi => g4 _ (by omega), fun i hi => rfl⟩, fun post hp => ?_⟩
    · rw [pk_us, h1, nI_add, td_ou_app, td_ou_K, Nat.add_comm]
    · rw [td_rr_rep]; exact g1
    · rw [td_lt_app, td_lt_K]; exact h3
    · rw [td_rr_rep]; exact g2
    · rw [td_lt_app, td_lt_K]; exact h5
    · unfold wpX_putKeep
      dsimp only
      refine br_f (nI_nle (by omega) hk) (gw _ ?_)
      dsimp only
      rw [nI_clamp (show d < 2 ^ 31 by omega)]
      exact ⟨v, v, nm_e hp⟩
theorem td_putDrop {d : Nat} {W : List td_Op} (hd : d < 6) (h : td_dl a2 a3 a4 a5 a6 a7 d W) (hb : d * 64 + (td_rr W).length < 448) (k : Nat) (hk : k < 2 ^ 31) :
    ∃ b3 b5 b6 : Nat → Int32, td_dl a2 b3 a4 b5 b6 a7 d (List.replicate k (some none) ++ W) ∧ (∀ e, e < d → td_sd a1 a2 a3 a4 a5 a6 a7 a1 a2 b3 a4 b5 b6 a7 e) ∧
      ∀ post : St1 → Prop, post (q0, q1, q2, q3, q4, q5, q6, q7, q8, q9, a1, a2, b3, a4, b5, b6, a7, a8, a9) → wpX_putDrop post (q0, q1, q2, q3, q4, q5, q6, q7, q8, q9, a1, a2, a3, a4, a5, a6, a7, a8, a9) (nI d) (nI k) := by
  cases k with
  | zero => exact ⟨a3, a5, a6, h, fun e _ => td_sd_rfl _ _ _ _ _ _ _ e, fun post hp => br_t (by decide) hp⟩
  | succ n =>
    obtain ⟨h1, h2, h3, h4, h5⟩ := h
    obtain ⟨b3, b5, b6, g1, g2, g3, g4, gw⟩ := @td_grow q0 q1 q2 q3 q4 q5 q6 q7 q8 q9 a1 a2 a3 a4 a5 a6 a7 a8 a9 d _ 2 hd h2 h4 hb (by decide) (n + 1)
    refine ⟨b3, b5, b6, ⟨?_, ?_, ?_, ?_, ?_⟩, fun e he => ⟨rfl, rfl, g3 e (by omega), rfl, fun i hi => g4 _ (by omega), fun i hi => rfl⟩, fun post hp => ?_⟩
    · rw [td_ou_app, td_ou_D, Nat.zero_add]; exact h1
    · rw [td_rr_rep]; exact g1
    · rw [td_lt_app, td_lt_D]; exact h3
    · rw [td_rr_rep]; exact g2
    · rw [td_lt_app, td_lt_D]; exact h5
    · unfold wpX_putDrop
      dsimp only
      exact br_f (nI_nle (by omega) hk) (gw _ hp)
theorem td_putAdd74 {post : St1 → Prop} {d n : Nat} {c : Int32} (hd : d < 6) (h4 : a4 d = nI n) (hb : d * 40 + n < 240) (h : post (q0, q1, q2, q3, q4, q5, q6, q7, q8, q9, a1, (upd a2 d (a2 d + 1)), a3, (upd a4 d (nI n + 1)), a5, a6, (upd a7 (d * 40 + n) c), a8, a9)) : wX_putAdd_74 post (nI d) c q0 q1 q2 q3 q4 q5 q6 q7 q8 q9 a1 a2 a3 a4 a5 a6 a7 a8 a9 := by
  unfold wX_putAdd_74
  rw [nI_clamp (show d < 2 ^ 31 by omega), h4, td_e40, nI_clamp (show d * 40 + n < 2 ^ 31 by omega)]
  have v : vp_in (nI d) 6 := vp_in_nI hd (by omega)
  exact ⟨v, vp_in_nI hb (by omega), nm_e ⟨v, v, nm_e ⟨v, v, nm_e h⟩⟩⟩
theorem td_putAdd {d : Nat} {W : List td_Op} (hd : d < 6) (h : td_dl a2 a3 a4 a5 a6 a7 d W) (hb : d * 64 + (td_rr W).length + 1 < 448) (hl : d * 40 + (td_lt W).length < 240) (c : Int32) :
    ∃ b2 b3 b4 b5 b6 b7 : Nat → Int32, td_dl b2 b3 b4 b5 b6 b7 d (td_ins c W) ∧ (∀ e, e < d → td_sd a1 a2 a3 a4 a5 a6 a7 a1 b2 b3 b4 b5 b6 b7 e) ∧
      ∀ post : St1 → Prop, post (q0, q1, q2, q3, q4, q5, q6, q7, q8, q9, a1, b2, b3, b4, b5, b6, b7, a8, a9) → wpX_putAdd post (q0, q1, q2, q3, q4, q5, q6, q7, q8, q9, a1, a2, a3, a4, a5, a6, a7, a8, a9) (nI d) c := by
  have v : vp_in (nI d) 6 := vp_in_nI hd (by omega)
  obtain ⟨h1, h2, h3, h4, h5⟩ := h
  obtain ⟨j, W0, hW, hk, hi⟩ := td_tail W
  have fin : ∀ (b3 b5 b6 : Nat → Int32), b3 d = nI (td_rr (td_ins c W)).length → td_rv b5 b6 (d * 64) (td_rr (td_ins c W)) → (∀ j, j ≠ d → b3 j = a3 j) → (∀ j, j < d * 64 → b5 j = a5 j ∧ b6 j = a6 j) →
      td_dl (upd a2 d (a2 d + 1)) b3 (upd a4 d (nI (td_lt W).length + 1)) b5 b6 (upd a7 (d * 40 + (td_lt W).length) c) d (td_ins c W) ∧ (∀ e, e < d → td_sd a1 a2 a3 a4 a5 a6 a7 a1 (upd a2 d (a2 d + 1)) b3 (upd a4 d (nI (td_lt W).length + 1)) b5 b6 (upd a7 (d * 40 + (td_lt W).length) c) e) := by
    intro b3 b5 b6 g1 g2 g3 g4
    refine ⟨⟨?_, g1, ?_, g2, ?_⟩, fun e he => ⟨rfl, pk_un (by omega), g3 e (by omega), pk_un (by omega), fun i hi => g4 _ (by omega), fun i hi => pk_un (by omega)⟩⟩
    · rw [pk_us, h1, nI_1, td_ou_ins]
    · rw [pk_us, nI_1, td_lt_ins]; rfl
    · rw [td_lt_ins]
      exact ⟨pk_us, td_lv_cp _ h5 (fun i hi => pk_un (by omega))⟩
  cases j with
  | zero =>
    have hW0 : W = W0 := hW
    subst hW0
    have hi2 : td_ins c W = some (some c) :: W := hi c
    obtain ⟨b3, b5, b6, g1, g2, g3, g4, gw⟩ := @td_grow q0 q1 q2 q3 q4 q5 q6 q7 q8 q9 a1 a2 a3 a4 a5 a6 a7 a8 a9 d _ 3 hd h2 h4 (by omega) (by decide) 1
    have gw' : ∀ post : St1 → Prop, post (q0, q1, q2, q3, q4, q5, q6, q7, q8, q9, a1, a2, b3, a4, b5, b6, a7, a8, a9) → wpX_grow post (q0, q1, q2, q3, q4, q5, q6, q7, q8, q9, a1, a2, a3, a4, a5, a6, a7, a8, a9) (nI d) 3 1 := gw
    obtain ⟨f1, f2⟩ := fin b3 b5 b6 (by rw [hi2]; exact g1) (by rw [hi2]; exact g2) g3 g4
    refine ⟨_, _, _, _, _, _, f1, f2, fun post hp => ?_⟩
    unfold wpX_putAdd
    dsimp only
    refine td_lastKind hd h2 h4 (by omega) (br_f hk (gw' _ ?_))
    exact td_putAdd74 hd h3 hl hp
  | succ j =>
    have er : td_rr W = (2, j + 1) :: td_rr W0 := by
      rw [hW, td_rr_rep]
      exact td_gr_new (by decide) hk
    have ei : td_rr (td_ins c W) = td_gr 2 (j + 1) (td_gr 3 1 (td_rr W0)) := by
      rw [hi c, td_rr_rep]; rfl
    rw [er] at h2 h4 hb
    simp only [List.length_cons] at h2 hb
    have g0 : upd a3 d (a3 d - 1) d = nI (td_rr W0).length := by
      rw [pk_us, h2]; exact nI_pred _
    obtain ⟨b3, b5, b6, g1, g2, g3, g4, gw⟩ := @td_grow q0 q1 q2 q3 q4 q5 q6 q7 q8 q9 a1 a2 (upd a3 d (a3 d - 1)) a4 a5 a6 a7 a8 a9 d _ 3 hd g0 h4.2.2 (by omega) (by decide) 1
    have gl := td_gr_le 3 1 (td_rr W0)
    obtain ⟨c3, c5, c6, k1, k2, k3, k4, kw⟩ := @td_grow q0 q1 q2 q3 q4 q5 q6 q7 q8 q9 a1 a2 b3 a4 b5 b6 a7 a8 a9 d _ 2 hd g1 g2 (by omega) (by decide) (j + 1)
    have gw' : ∀ post : St1 → Prop, post (q0, q1, q2, q3, q4, q5, q6, q7, q8, q9, a1, a2, b3, a4, b5, b6, a7, a8, a9) → wpX_grow post (q0, q1, q2, q3, q4, q5, q6, q7, q8, q9, a1, a2, (upd a3 d (a3 d - 1)), a4, a5, a6, a7, a8, a9) (nI d) 3 1 := gw
    obtain ⟨f1, f2⟩ := fin c3 c5 c6 (by rw [ei]; exact k1) (by rw [ei]; exact k2) (fun i hi => by rw [k3 i hi, g3 i hi, pk_un hi]) (fun i hi => ⟨by rw [(k4 i hi).1, (g4 i hi).1], by rw [(k4 i hi).2, (g4 i hi).2]⟩)
    refine ⟨_, _, _, _, _, _, f1, f2, fun post hp => ?_⟩
    unfold wpX_putAdd
    dsimp only
    refine td_lastKind (R := (2, j + 1) :: td_rr W0) hd h2 h4 (by simp only [List.length_cons]; omega) (br_t rfl ?_)
    rw [nI_clamp (show d < 2 ^ 31 by omega)]
    refine ⟨v, nm_r (e' := nI (d * 64 + (td_rr W0).length)) (by rw [h2]; exact td_e64m d _) ?_⟩
    rw [nI_clamp (show d * 64 + (td_rr W0).length < 2 ^ 31 by omega)]
    refine ⟨vp_in_nI (by omega) (by omega), nm_r h4.2.1 ⟨v, v, nm_e (gw' _ (kw _ ?_))⟩⟩
    exact td_putAdd74 hd h3 hl hp
end
end
section
/-! Part 04: copy. -/
section
variable {q0 q1 q2 q3 q4 q5 q6 q7 q8 q9 : Int32} {a1 a2 a3 a4 a5 a6 a7 a8 a9 : Nat → Int32}
theorem td_c112 {f t n : Nat} (hf : f < 6) (ht : t < 6) (hft : f ≠ t) (hn : n ≤ 40) (h4 : a4 f = nI n) : ∀ (r i : Nat) (b7 : Nat → Int32), i + r = n → (∀ j, j < i → b7 (t * 40 + j) = a7 (f * 40 + j)) → (∀ j, j < t * 40 ∨ t * 40 + 40 ≤ j → b7 j = a7 j) →
    ∃ c7 : Nat → Int32, (∀ j, j < n → c7 (t * 40 + j) = a7 (f * 40 + j)) ∧ (∀ j, j < t * 40 ∨ t * 40 + 40 ≤ j → c7 j = a7 j) ∧
      ∀ post : St1 → Prop, post (q0, q1, q2, q3, q4, q5, q6, q7, q8, q9, a1, a2, a3, a4, a5, a6, c7, a8, a9) → ∃ fu, wX_copy_112 post (nI f) (nI t) q0 q1 q2 q3 q4 q5 q6 q7 q8 q9 fu (nI i) a1 a2 a3 a4 a5 a6 b7 a8 a9 := by
  have v : vp_in (nI f) 6 := vp_in_nI hf (by omega)
  intro r
  induction r with
  | zero =>
    intro i b7 hi h1 h2
    have hi' : i = n := hi
    subst hi'
    refine ⟨b7, h1, h2, fun post hp => ⟨1, And.intro v ?_⟩⟩
    rw [nI_clamp (show f < 2 ^ 31 by omega), h4]
    exact br_t (nI_le (Nat.le_refl i) (by omega)) hp
  | succ r ih =>
    intro i b7 hi h1 h2
    have e0 : b7 (f * 40 + i) = a7 (f * 40 + i) := h2 _ (by omega)
    obtain ⟨c7, g1, g2, gw⟩ := ih (i + 1) (upd b7 (t * 40 + i) (b7 (f * 40 + i))) (by omega)
      (fun j hj => by
        by_cases e : j = i
        · subst e; rw [pk_us, e0]
        · rw [pk_un (by omega)]; exact h1 j (by omega))
      (fun j hj => by rw [pk_un (by omega)]; exact h2 j hj)
    refine ⟨c7, g1, g2, fun post hp => ?_⟩
    obtain ⟨fu, hfu⟩ := gw post hp
    refine ⟨fu + 1, And.intro v ?_⟩
    rw [nI_clamp (show f < 2 ^ 31 by omega), h4, td_e40, td_e40, nI_clamp (show f * 40 + i < 2 ^ 31 by omega), nI_clamp (show t * 40 + i < 2 ^ 31 by omega)]
    exact br_f (nI_ge (by omega) (by omega)) ⟨vp_in_nI (by omega) (by omega), vp_in_nI (by omega) (by omega), nm_e (nm_r (nI_1 i) hfu)⟩
theorem td_c50 {f t n : Nat} (hf : f < 6) (ht : t < 6) (hft : f ≠ t) (hn : n ≤ 64) (h3 : a3 f = nI n) : ∀ (r i : Nat) (b5 b6 : Nat → Int32), i + r = n → (∀ j, j < i → b5 (t * 64 + j) = a5 (f * 64 + j) ∧ b6 (t * 64 + j) = a6 (f * 64 + j)) → (∀ j, j < t * 64 ∨ t * 64 + 64 ≤ j → b5 j = a5 j ∧ b6 j = a6 j) →
    ∃ c5 c6 : Nat → Int32, (∀ j, j < n → c5 (t * 64 + j) = a5 (f * 64 + j) ∧ c6 (t * 64 + j) = a6 (f * 64 + j)) ∧ (∀ j, j < t * 64 ∨ t * 64 + 64 ≤ j → c5 j = a5 j ∧ c6 j = a6 j) ∧
      ∀ post : St1 → Prop, (∃ fu, wX_copy_112 post (nI f) (nI t) q0 q1 q2 q3 q4 q5 q6 q7 q8 q9 fu 0 a1 a2 a3 a4 c5 c6 a7 a8 a9) → ∃ fu, wX_copy_50 post (nI f) (nI t) q0 q1 q2 q3 q4 q5 q6 q7 q8 q9 fu (nI i) a1 a2 a3 a4 b5 b6 a7 a8 a9 := by
  have v : vp_in (nI f) 6 := vp_in_nI hf (by omega)
  intro r
  induction r with
  | zero =>
    intro i b5 b6 hi h1 h2
    have hi' : i = n := hi
    subst hi'
    refine ⟨b5, b6, h1, h2, fun post hp => ⟨1, And.intro v ?_⟩⟩
    rw [nI_clamp (show f < 2 ^ 31 by omega), h3]
    exact br_t (nI_le (Nat.le_refl i) (by omega)) hp
  | succ r ih =>
    intro i b5 b6 hi h1 h2
    have e0 := h2 (f * 64 + i) (by omega)
    obtain ⟨c5, c6, g1, g2, gw⟩ := ih (i + 1) (upd b5 (t * 64 + i) (b5 (f * 64 + i))) (upd b6 (t * 64 + i) (b6 (f * 64 + i))) (by omega)
      (fun j hj => by
        by_cases e : j = i
        · subst e; rw [pk_us, pk_us]; exact e0
        · rw [pk_un (by omega), pk_un (by omega)]; exact h1 j (by omega))
      (fun j hj => by rw [pk_un (by omega), pk_un (by omega)]; exact h2 j hj)
    refine ⟨c5, c6, g1, g2, fun post hp => ?_⟩
    obtain ⟨fu, hfu⟩ := gw post hp
    refine ⟨fu + 1, And.intro v ?_⟩
    rw [nI_clamp (show f < 2 ^ 31 by omega), h3, td_e64, td_e64, nI_clamp (show f * 64 + i < 2 ^ 31 by omega), nI_clamp (show t * 64 + i < 2 ^ 31 by omega)]
    have v1 : vp_in (nI (f * 64 + i)) 448 := vp_in_nI (by omega) (by omega)
    have v2 : vp_in (nI (t * 64 + i)) 448 := vp_in_nI (by omega) (by omega)
    exact br_f (nI_ge (by omega) (by omega)) ⟨v1, v2, nm_e ⟨v1, v2, nm_e (nm_r (nI_1 i) hfu)⟩⟩
theorem td_copy {f t : Nat} {W : List td_Op} (hf : f < 6) (ht : t < 6) (hft : f ≠ t) (h : td_dl a2 a3 a4 a5 a6 a7 f W) (hr : (td_rr W).length ≤ 64) (hl : (td_lt W).length ≤ 40) :
    ∃ b2 b3 b4 b5 b6 b7 : Nat → Int32, td_dl b2 b3 b4 b5 b6 b7 t W ∧ (∀ e, e < 6 → e ≠ t → td_sd a1 a2 a3 a4 a5 a6 a7 (upd a1 t (a1 f)) b2 b3 b4 b5 b6 b7 e) ∧
      ∀ post : St1 → Prop, post (q0, q1, q2, q3, q4, q5, q6, q7, q8, q9, (upd a1 t (a1 f)), b2, b3, b4, b5, b6, b7, a8, a9) → wpX_copy post (q0, q1, q2, q3, q4, q5, q6, q7, q8, q9, a1, a2, a3, a4, a5, a6, a7, a8, a9) (nI f) (nI t) := by
  have vf : vp_in (nI f) 6 := vp_in_nI hf (by omega)
  have vt : vp_in (nI t) 6 := vp_in_nI ht (by omega)
  obtain ⟨h1, h2, h3, h4, h5⟩ := h
  obtain ⟨c5, c6, g1, g2, gw⟩ := @td_c50 q0 q1 q2 q3 q4 q5 q6 q7 q8 q9 (upd a1 t (a1 f)) (upd a2 t (a2 f)) (upd a3 t (a3 f)) (upd a4 t (a4 f)) a5 a6 a7 a8 a9 f t _ hf ht hft hr (by rw [pk_un hft]; exact h2) _ 0 a5 a6 (Nat.zero_add _) (fun j hj => absurd hj (Nat.not_lt_zero j)) (fun j _ => ⟨rfl, rfl⟩)
  obtain ⟨c7, k1, k2, kw⟩ := @td_c112 q0 q1 q2 q3 q4 q5 q6 q7 q8 q9 (upd a1 t (a1 f)) (upd a2 t (a2 f)) (upd a3 t (a3 f)) (upd a4 t (a4 f)) c5 c6 a7 a8 a9 f t _ hf ht hft hl (by rw [pk_un hft]; exact h3) _ 0 a7 (Nat.zero_add _) (fun j hj => absurd hj (Nat.not_lt_zero j)) (fun j _ => rfl)
  refine ⟨upd a2 t (a2 f), upd a3 t (a3 f), upd a4 t (a4 f), c5, c6, c7, ⟨?_, ?_, ?_, ?_, ?_⟩, fun e he het => ⟨pk_un het, pk_un het, pk_un het, pk_un het, fun i hi => g2 _ (by omega), fun i hi => k2 _ (by omega)⟩, fun post hp => ?_⟩
  · rw [pk_us]; exact h1
  · rw [pk_us]; exact h2
  · rw [pk_us]; exact h3
  · exact td_rv_cp _ h4 g1
  · exact td_lv_cp _ h5 k1
  · unfold wpX_copy
    dsimp only
    rw [nI_clamp (show f < 2 ^ 31 by omega), nI_clamp (show t < 2 ^ 31 by omega)]
    exact ⟨vf, vt, nm_e ⟨vf, vt, nm_e ⟨vf, vt, nm_e ⟨vf, vt, nm_e (gw post (kw post hp))⟩⟩⟩⟩
end
end
section
/-! Part 05: the whole object's invariant; begin, keep, drop, add, finish, type, clear. -/
section
variable {q0 q1 q2 q3 q4 q5 q6 q7 q8 q9 : Int32} {a1 a2 a3 a4 a5 a6 a7 a8 a9 : Nat → Int32}
/-- slot e holds the delta W -/
def td_SL (a1 a2 a3 a4 a5 a6 a7 : Nat → Int32) (e : Nat) (W : List td_Op) : Prop :=
  a1 e = nI (td_in W) ∧ td_dl a2 a3 a4 a5 a6 a7 e W ∧ td_nf W ∧ td_in W ≤ 40 ∧ td_ou W ≤ 40
def td_WK (q0 : Int32) (a1 a2 a3 a4 a5 a6 a7 : Nat → Int32) (W : List td_Op) (m : Nat) : Prop :=
  a1 4 = nI m ∧ m ≤ 40 ∧ q0 = nI (td_in W) ∧ td_in W ≤ m ∧ td_ou W ≤ 40 ∧ td_nf W ∧ td_dl a2 a3 a4 a5 a6 a7 4 W
def td_G (q0 q1 : Int32) (a1 a2 a3 a4 a5 a6 a7 : Nat → Int32) : Prop :=
  (∀ e, e < 4 → ∃ W, td_SL a1 a2 a3 a4 a5 a6 a7 e W) ∧ (∃ W m, td_WK q0 a1 a2 a3 a4 a5 a6 a7 W m) ∧ ∃ n, n ≤ 40 ∧ q1 = nI n
def td_Gu (u : St1) : Prop := match u with
  | (q0, q1, q2, q3, q4, q5, q6, q7, q8, q9, a1, a2, a3, a4, a5, a6, a7, a8, a9) => td_G q0 q1 a1 a2 a3 a4 a5 a6 a7
/-- a call ends in one state, and that is a good one -/
def td_OK (w : (Int32 → St1 → Prop) → Prop) : Prop := ∃ (r : Int32) (u : St1), td_Gu u ∧ ∀ post, post r u → w post
theorem td_lt40 {W : List td_Op} (h : td_ou W ≤ 40) : (td_lt W).length ≤ 40 := Nat.le_trans (td_lt_ou W) h
theorem td_SL_cap {e : Nat} {W : List td_Op} (h : td_SL a1 a2 a3 a4 a5 a6 a7 e W) : (td_rr W).length ≤ 60 ∧ (td_lt W).length ≤ 40 :=
  ⟨td_cap60 h.2.2.1 h.2.2.2.1 h.2.2.2.2, td_lt40 h.2.2.2.2⟩
theorem td_SL_sd {b1 b2 b3 b4 b5 b6 b7 : Nat → Int32} {e : Nat} {W : List td_Op} (h : td_SL a1 a2 a3 a4 a5 a6 a7 e W) (s : td_sd a1 a2 a3 a4 a5 a6 a7 b1 b2 b3 b4 b5 b6 b7 e) : td_SL b1 b2 b3 b4 b5 b6 b7 e W := by
  have c := td_SL_cap h
  exact ⟨by rw [s.1]; exact h.1, td_dl_sd h.2.1 (by omega) c.2 s, h.2.2⟩
theorem td_WK_sd {b1 b2 b3 b4 b5 b6 b7 : Nat → Int32} {W : List td_Op} {m : Nat} (h : td_WK q0 a1 a2 a3 a4 a5 a6 a7 W m) (s : td_sd a1 a2 a3 a4 a5 a6 a7 b1 b2 b3 b4 b5 b6 b7 4) : td_WK q0 b1 b2 b3 b4 b5 b6 b7 W m := by
  obtain ⟨h1, h2, h3, h4, h5, h6, h7⟩ := h
  have c := td_cap60 h6 (by omega) h5
  exact ⟨by rw [s.1]; exact h1, h2, h3, h4, h5, h6, td_dl_sd h7 (by omega) (td_lt40 h5) s⟩
theorem td_G_to {b1 b2 b3 b4 b5 b6 b7 : Nat → Int32} {t : Nat} {W : List td_Op} {q1' : Int32} (h : td_G q0 q1 a1 a2 a3 a4 a5 a6 a7) (s : ∀ e, e < 5 → e ≠ t → td_sd a1 a2 a3 a4 a5 a6 a7 b1 b2 b3 b4 b5 b6 b7 e) (ht : t < 4) (hW : td_SL b1 b2 b3 b4 b5 b6 b7 t W) (hn : ∃ n, n ≤ 40 ∧ q1' = nI n) : td_G q0 q1' b1 b2 b3 b4 b5 b6 b7 := by
  obtain ⟨h1, ⟨V, m, h2⟩, _⟩ := h
  refine ⟨fun e he => ?_, ⟨V, m, td_WK_sd h2 (s 4 (by omega) (by omega))⟩, hn⟩
  by_cases z : e = t
  · subst z; exact ⟨W, hW⟩
  · obtain ⟨V', hV⟩ := h1 e he
    exact ⟨V', td_SL_sd hV (s e (by omega) z)⟩
theorem td_nf_K (n : Nat) {W : List td_Op} (h : td_nf W) : td_nf (List.replicate n none ++ W) := by
  induction n with
  | zero => exact h
  | succ n ih => rw [List.replicate_succ, List.cons_append]; exact ⟨trivial, ih⟩
theorem td_nf_D (n : Nat) {W : List td_Op} (h : td_nf W) : td_nf (List.replicate n (some none) ++ W) := by
  induction n with
  | zero => exact h
  | succ n ih => rw [List.replicate_succ, List.cons_append]; exact ⟨trivial, ih⟩
theorem td_same {u : St1} (h : td_Gu u) {w : (Int32 → St1 → Prop) → Prop} (r : Int32) (hw : ∀ post : Int32 → St1 → Prop, post r u → w post) : td_OK w := ⟨r, u, h, hw⟩
theorem td_begin {m : Nat} (hm : m ≤ 40) (hG : td_G q0 q1 a1 a2 a3 a4 a5 a6 a7) : td_OK (fun post => wpX_begin post (q0, q1, q2, q3, q4, q5, q6, q7, q8, q9, a1, a2, a3, a4, a5, a6, a7, a8, a9) (nI m)) := by
  obtain ⟨hS, _, hn⟩ := hG
  refine ⟨0, (0, q1, q2, q3, q4, q5, q6, q7, q8, q9, (upd a1 4 (nI m)), (upd a2 4 0), (upd a3 4 0), (upd a4 4 0), a5, a6, a7, a8, a9), ⟨fun e he => ?_, ⟨[], m, pk_us, hm, rfl, Nat.zero_le _, Nat.zero_le _, trivial, ⟨pk_us, pk_us, pk_us, trivial, trivial⟩⟩, hn⟩, fun post hp => ?_⟩
  · obtain ⟨W, hW⟩ := hS e he
    exact ⟨W, td_SL_sd hW ⟨pk_un (by omega), pk_un (by omega), pk_un (by omega), pk_un (by omega), fun _ _ => ⟨rfl, rfl⟩, fun _ _ => rfl⟩⟩
  · unfold wpX_begin
    dsimp only
    exact br_f (nI_pos (by omega)) (br_t (nI_le (b := 40) hm (by omega)) (td_wipe (d := 4) (by omega) _ hp))
theorem td_keep {k : Nat} (h1 : 1 ≤ k) (hk : k ≤ 4) (hG : td_G q0 q1 a1 a2 a3 a4 a5 a6 a7) : td_OK (fun post => wpX_keep post (q0, q1, q2, q3, q4, q5, q6, q7, q8, q9, a1, a2, a3, a4, a5, a6, a7, a8, a9) (nI k)) := by
  have hG0 := hG
  obtain ⟨hS, ⟨W, m, w1, w2, w3, w4, w5, w6, w7⟩, hn⟩ := hG
  subst w3
  have e1 : a1 4 - nI (td_in W) = nI (m - td_in W) := by rw [w1, pk_sub w4]
  have e2 : a2 4 + nI k = nI (td_ou W + k) := by rw [w7.1, nI_add]
  have u1 : (1 : Int32) ≤ nI k := nI_le (a := 1) h1 (by omega)
  by_cases c1 : k ≤ m - td_in W
  · by_cases c2 : td_ou W + k ≤ 40
    · have cp := td_cap60 w6 (by omega) w5
      obtain ⟨b2, b3, b5, b6, g1, g2, gw⟩ := @td_putKeep (nI (td_in W)) q1 q2 q3 q4 q5 q6 q7 q8 q9 a1 a2 a3 a4 a5 a6 a7 a8 a9 4 W (by omega) w7 (by omega) k (by omega)
      refine ⟨b2 4, ((nI (td_in W) + nI k), q1, q2, q3, q4, q5, q6, q7, q8, q9, a1, b2, b3, a4, b5, b6, a7, a8, a9), ⟨fun e he => ?_, ⟨List.replicate k none ++ W, m, w1, w2, ?_, ?_, ?_, td_nf_K k w6, g1⟩, hn⟩, fun post hp => ?_⟩
      · obtain ⟨V, hV⟩ := hS e he
        exact ⟨V, td_SL_sd hV (g2 e he)⟩
      · rw [nI_add, td_in_app, td_in_K, Nat.add_comm]
      · rw [td_in_app, td_in_K]; omega
      · rw [td_ou_app, td_ou_K]; omega
      · unfold wpX_keep
        dsimp only
        rw [e1, e2]
        exact br_t u1 (br_t (nI_le c1 (by omega)) (br_t (nI_le (b := 40) c2 (by omega)) (gw _ (nm_e hp))))
    · refine td_same (u := ((nI (td_in W)), q1, q2, q3, q4, q5, q6, q7, q8, q9, a1, a2, a3, a4, a5, a6, a7, a8, a9)) hG0 (-2) (fun post hp => ?_)
      unfold wpX_keep
      dsimp only
      rw [e1, e2]
      exact br_t u1 (br_t (nI_le c1 (by omega)) (br_f (nI_ge (b := td_ou W + k) (a := 40) (by omega) (by omega)) hp))
  · refine td_same (u := ((nI (td_in W)), q1, q2, q3, q4, q5, q6, q7, q8, q9, a1, a2, a3, a4, a5, a6, a7, a8, a9)) hG0 (-3) (fun post hp => ?_)
    unfold wpX_keep
    dsimp only
    rw [e1]
    exact br_t u1 (br_f (nI_ge (by omega) (by omega)) hp)
theorem td_drop {k : Nat} (h1 : 1 ≤ k) (hk : k ≤ 4) (hG : td_G q0 q1 a1 a2 a3 a4 a5 a6 a7) : td_OK (fun post => wpX_drop post (q0, q1, q2, q3, q4, q5, q6, q7, q8, q9, a1, a2, a3, a4, a5, a6, a7, a8, a9) (nI k)) := by
  have hG0 := hG
  obtain ⟨hS, ⟨W, m, w1, w2, w3, w4, w5, w6, w7⟩, hn⟩ := hG
  subst w3
  have e1 : a1 4 - nI (td_in W) = nI (m - td_in W) := by rw [w1, pk_sub w4]
  have u1 : (1 : Int32) ≤ nI k := nI_le (a := 1) h1 (by omega)
  by_cases c1 : k ≤ m - td_in W
  · have cp := td_cap60 w6 (by omega) w5
    obtain ⟨b3, b5, b6, g1, g2, gw⟩ := @td_putDrop (nI (td_in W)) q1 q2 q3 q4 q5 q6 q7 q8 q9 a1 a2 a3 a4 a5 a6 a7 a8 a9 4 W (by omega) w7 (by omega) k (by omega)
    refine ⟨nI (td_in W) + nI k, ((nI (td_in W) + nI k), q1, q2, q3, q4, q5, q6, q7, q8, q9, a1, a2, b3, a4, b5, b6, a7, a8, a9), ⟨fun e he => ?_, ⟨List.replicate k (some none) ++ W, m, w1, w2, ?_, ?_, ?_, td_nf_D k w6, g1⟩, hn⟩, fun post hp => ?_⟩
    · obtain ⟨V, hV⟩ := hS e he
      exact ⟨V, td_SL_sd hV (g2 e he)⟩
    · rw [nI_add, td_in_app, td_in_D, Nat.add_comm]
    · rw [td_in_app, td_in_D]; omega
    · rw [td_ou_app, td_ou_D]; omega
    · unfold wpX_drop
      dsimp only
      rw [e1]
      exact br_t u1 (br_t (nI_le c1 (by omega)) (gw _ (nm_e hp)))
  · refine td_same (u := ((nI (td_in W)), q1, q2, q3, q4, q5, q6, q7, q8, q9, a1, a2, a3, a4, a5, a6, a7, a8, a9)) hG0 (-3) (fun post hp => ?_)
    unfold wpX_drop
    dsimp only
    rw [e1]
    exact br_t u1 (br_f (nI_ge (by omega) (by omega)) hp)
theorem td_add {c : Nat} (hc : c < 16) (hG : td_G q0 q1 a1 a2 a3 a4 a5 a6 a7) : td_OK (fun post => wpX_add post (q0, q1, q2, q3, q4, q5, q6, q7, q8, q9, a1, a2, a3, a4, a5, a6, a7, a8, a9) (nI c)) := by
  have hG0 := hG
  obtain ⟨hS, ⟨W, m, w1, w2, w3, w4, w5, w6, w7⟩, hn⟩ := hG
  subst w3
  by_cases c1 : c ≤ 9
  · by_cases c2 : td_ou W = 40
    · refine td_same (u := ((nI (td_in W)), q1, q2, q3, q4, q5, q6, q7, q8, q9, a1, a2, a3, a4, a5, a6, a7, a8, a9)) hG0 (-2) (fun post hp => ?_)
      unfold wpX_add
      dsimp only
      exact br_f (nI_pos (by omega)) (br_t (nI_le (b := 9) c1 (by omega)) (br_t (by rw [w7.1, c2]; rfl) hp))
    · have cp := td_cap60 w6 (by omega) w5
      have cl := td_lt_ou W
      obtain ⟨b2, b3, b4, b5, b6, b7, g1, g2, gw⟩ := @td_putAdd (nI (td_in W)) q1 q2 q3 q4 q5 q6 q7 q8 q9 a1 a2 a3 a4 a5 a6 a7 a8 a9 4 W (by omega) w7 (by omega) (by omega) (nI c)
      refine ⟨b2 4, ((nI (td_in W)), q1, q2, q3, q4, q5, q6, q7, q8, q9, a1, b2, b3, b4, b5, b6, b7, a8, a9), ⟨fun e he => ?_, ⟨td_ins (nI c) W, m, w1, w2, ?_, ?_, ?_, td_nf_ins _ _ w6, g1⟩, hn⟩, fun post hp => ?_⟩
      · obtain ⟨V, hV⟩ := hS e he
        exact ⟨V, td_SL_sd hV (g2 e he)⟩
      · rw [td_in_ins]
      · rw [td_in_ins]; omega
      · rw [td_ou_ins]; omega
      · unfold wpX_add
        dsimp only
        refine br_f (nI_pos (by omega)) (br_t (nI_le (b := 9) c1 (by omega)) (br_f ?_ (gw _ hp)))
        rw [w7.1]
        exact fun z => c2 ((nI_eq (a := td_ou W) (b := 40) (by omega) (by omega)).mp z)
  · refine td_same (u := ((nI (td_in W)), q1, q2, q3, q4, q5, q6, q7, q8, q9, a1, a2, a3, a4, a5, a6, a7, a8, a9)) hG0 (-1) (fun post hp => ?_)
    unfold wpX_add
    dsimp only
    exact br_f (nI_pos (by omega)) (br_f (nI_ge (a := 9) (by omega) (by omega)) hp)
theorem td_finish {s : Nat} (hs : s < 4) (hG : td_G q0 q1 a1 a2 a3 a4 a5 a6 a7) : td_OK (fun post => wpX_finish post (q0, q1, q2, q3, q4, q5, q6, q7, q8, q9, a1, a2, a3, a4, a5, a6, a7, a8, a9) (nI s)) := by
  have hG0 := hG
  obtain ⟨hS, ⟨W, m, w1, w2, w3, w4, w5, w6, w7⟩, hn⟩ := hG
  subst w3
  have e1 : a1 4 - nI (td_in W) = nI (m - td_in W) := by rw [w1, pk_sub w4]
  have e2 : a2 4 + nI (m - td_in W) = nI (td_ou W + (m - td_in W)) := by rw [w7.1, nI_add]
  have cp := td_cap60 w6 (by omega) w5
  have cl := td_lt_ou W
  by_cases c2 : td_ou W + (m - td_in W) ≤ 40
  · obtain ⟨b2, b3, b4, b5, b6, b7, g1, g2, gw⟩ := @td_copy (nI (td_in W)) q1 q2 q3 q4 q5 q6 q7 q8 q9 a1 a2 a3 a4 a5 a6 a7 a8 a9 4 5 W (by omega) (by omega) (by omega) w7 (by omega) (by omega)
    obtain ⟨c2', c3, c5, c6, k1, k2, kw⟩ := @td_putKeep (nI (td_in W)) q1 q2 q3 q4 q5 q6 q7 q8 q9 (upd a1 5 (a1 4)) b2 b3 b4 b5 b6 b7 a8 a9 5 W (by omega) g1 (by omega) (m - td_in W) (by omega)
    have ei : td_in (List.replicate (m - td_in W) none ++ W) = m := by rw [td_in_app, td_in_K]; omega
    have eo : td_ou (List.replicate (m - td_in W) none ++ W) = td_ou W + (m - td_in W) := by rw [td_ou_app, td_ou_K]; omega
    have nf' := td_nf_K (m - td_in W) w6
    have cp' := td_cap60 nf' (by omega) (by omega)
    obtain ⟨d2, d3, d4, d5, d6, d7, l1, l2, lw⟩ := @td_copy (nI (td_in W)) q1 q2 q3 q4 q5 q6 q7 q8 q9 (upd a1 5 (a1 4)) c2' c3 b4 c5 c6 b7 a8 a9 5 s _ (by omega) (by omega) (by omega) k1 (by omega) (td_lt40 (by omega))
    refine ⟨d2 s, ((nI (td_in W)), q1, q2, q3, q4, q5, q6, q7, q8, q9, (upd (upd a1 5 (a1 4)) s (upd a1 5 (a1 4) 5)), d2, d3, d4, d5, d6, d7, a8, a9), td_G_to hG0 (t := s) (fun e he hes => td_sd_tr (g2 e (by omega) (by omega)) (td_sd_tr (k2 e he) (l2 e (by omega) hes))) hs ⟨?_, l1, nf', by omega, by omega⟩ hn, fun post hp => ?_⟩
    · rw [pk_us, pk_us, ei]; exact w1
    · unfold wpX_finish
      dsimp only
      refine td_slot hs (br_f (by decide) (nm_r e1 ?_))
      rw [e2]
      refine br_t (nI_le (b := 40) c2 (by omega)) (gw _ (kw _ (lw _ ?_)))
      dsimp only
      rw [nI_clamp (show s < 2 ^ 31 by omega)]
      exact ⟨vp_in_nI (by omega) (by omega), hp⟩
  · refine td_same (u := ((nI (td_in W)), q1, q2, q3, q4, q5, q6, q7, q8, q9, a1, a2, a3, a4, a5, a6, a7, a8, a9)) hG0 (-2) (fun post hp => ?_)
    unfold wpX_finish
    dsimp only
    refine td_slot hs (br_f (by decide) (nm_r e1 ?_))
    rw [e2]
    exact br_f (nI_ge (a := 40) (by omega) (by omega)) hp
theorem td_type {c : Nat} (hc : c ≤ 9) (hG : td_G q0 q1 a1 a2 a3 a4 a5 a6 a7) : td_OK (fun post => wpX_type post (q0, q1, q2, q3, q4, q5, q6, q7, q8, q9, a1, a2, a3, a4, a5, a6, a7, a8, a9) (nI c)) := by
  have hG0 := hG
  obtain ⟨hS, hW, n, hn, rfl⟩ := hG
  by_cases c1 : n = 40
  · refine td_same (u := (q0, (nI n), q2, q3, q4, q5, q6, q7, q8, q9, a1, a2, a3, a4, a5, a6, a7, a8, a9)) hG0 (-2) (fun post hp => ?_)
    unfold wpX_type
    dsimp only
    exact br_f (nI_pos (by omega)) (br_t (nI_le (b := 9) hc (by omega)) (br_t (by rw [c1]; rfl) hp))
  · refine ⟨nI n + 1, (q0, (nI n + 1), q2, q3, q4, q5, q6, q7, q8, q9, a1, a2, a3, a4, a5, a6, a7, (upd a8 n (nI c)), a9), ⟨hS, hW, n + 1, by omega, nI_1 n⟩, fun post hp => ?_⟩
    unfold wpX_type
    dsimp only
    rw [nI_clamp (show n < 2 ^ 31 by omega)]
    exact br_f (nI_pos (by omega)) (br_t (nI_le (b := 9) hc (by omega)) (br_f (fun z => c1 ((nI_eq (a := n) (b := 40) (by omega) (by omega)).mp z)) ⟨vp_in_nI (by omega) (by omega), nm_e (nm_e hp)⟩))
theorem td_clear (hG : td_G q0 q1 a1 a2 a3 a4 a5 a6 a7) : ∃ u : St1, td_Gu u ∧ ∀ post : St1 → Prop, post u → wpX_clear post (q0, q1, q2, q3, q4, q5, q6, q7, q8, q9, a1, a2, a3, a4, a5, a6, a7, a8, a9) :=
  ⟨(q0, 0, q2, q3, q4, q5, q6, q7, q8, q9, a1, a2, a3, a4, a5, a6, a7, a8, a9), ⟨hG.1, hG.2.1, 0, Nat.zero_le _, rfl⟩, fun _ hp => hp⟩
end
end
section
/-! Part 06: the two cursors. -/
section
variable {q0 q1 q2 q3 q4 q5 q6 q7 q8 q9 : Int32} {a1 a2 a3 a4 a5 a6 a7 a8 a9 : Nat → Int32}
variable {b1 b2 b3 b4 b5 b6 b7 : Nat → Int32}
def td_hk : List td_Op → Int32
  | [] => 0
  | o :: _ => td_kd o
def td_cu (a5 a6 : Nat → Int32) : Nat → Nat → Nat → List td_Op → Prop
  | 0, _, _, x => x = []
  | m + 1, p, L, x => 1 ≤ L ∧ ∃ x1 x2, x = x1 ++ x2 ∧ x1.length = L ∧ (∀ o, o ∈ x1 → td_kd o = a5 p) ∧ td_fu a5 a6 m (p + 1) x2
theorem td_fu_cu (m : Nat) {p : Nat} {x : List td_Op} (h : td_fu a5 a6 m p x) : ∃ L, (m ≠ 0 → a6 p = nI L) ∧ (m = 0 → L = 0) ∧ td_cu a5 a6 m p L x := by
  cases m with
  | zero => exact ⟨0, fun z => absurd rfl z, fun _ => rfl, h⟩
  | succ m =>
    obtain ⟨n, x1, x2, h1, h2, h3, h4, h5, h6⟩ := h
    exact ⟨n, fun _ => h1, fun z => absurd z (Nat.succ_ne_zero m), h2, x1, x2, h3, h4, h5, h6⟩
/-- the run cursor qr in delta d stands before x: m runs, L left of the first -/
def td_CR (a3 a5 a6 : Nat → Int32) (qr : Int32) (d : Nat) (x : List td_Op) (m L : Nat) : Prop :=
  ∃ i, qr = nI i ∧ a3 d = nI (i + m) ∧ i + m ≤ 64 ∧ x.length ≤ 80 ∧ td_cu a5 a6 m (d * 64 + i) L x
/-- the letter cursor qf in delta d stands before x's letters -/
def td_CL (a7 : Nat → Int32) (qf : Int32) (d : Nat) (x : List td_Op) : Prop :=
  ∃ f, qf = nI f ∧ d * 40 ≤ f ∧ f + (td_lt x).length ≤ d * 40 + 40 ∧ td_sg a7 f (td_lt x)
theorem td_CR_ne {qr : Int32} {d m L : Nat} {x : List td_Op} (h : td_CR a3 a5 a6 qr d x m L) (hx : x ≠ []) : m ≠ 0 := by
  obtain ⟨i, _, _, _, _, hc⟩ := h
  intro z
  subst z
  exact hx hc
theorem td_hk0 {x : List td_Op} (h : x ≠ []) : td_hk x ≠ 0 := by
  cases x with
  | nil => exact absurd rfl h
  | cons o x => exact td_kd0 o
theorem td_CR_pre {qr : Int32} {d m L : Nat} {x : List td_Op} (h : td_CR a3 a5 a6 qr d x m L) (hx : x ≠ []) : 1 ≤ L ∧ L ≤ x.length ∧ L ≤ 80 ∧ ∀ o, o ∈ x.take L → td_kd o = td_hk x := by
  have hm := td_CR_ne h hx
  obtain ⟨i, _, _, _, hl, hc⟩ := h
  cases m with
  | zero => exact absurd rfl hm
  | succ m =>
    obtain ⟨h1, x1, x2, h2, h3, h4, h5⟩ := hc
    have e : x.length = L + x2.length := by rw [h2, List.length_append, h3]
    refine ⟨h1, by omega, by omega, ?_⟩
    have et : x.take L = x1 := by rw [h2, ← h3, List.take_left]
    rw [et]
    cases x1 with
    | nil => simp only [List.length_nil] at h3; omega
    | cons o x1 =>
      intro o' ho'
      have eh : td_hk x = td_kd o := by rw [h2]; rfl
      rw [eh, h4 o' ho', h4 o (List.mem_cons_self ..)]
theorem td_mem_take {α : Type} {k L : Nat} (h : k ≤ L) {x : List α} {o : α} (ho : o ∈ x.take k) : o ∈ x.take L := by
  have e : x.take k = (x.take L).take k := by rw [List.take_take, Nat.min_eq_left h]
  rw [e] at ho
  exact List.mem_of_mem_take ho
theorem td_preK {x : List td_Op} {L k : Nat} (h : ∀ o, o ∈ x.take L → td_kd o = td_hk x) (h1 : td_hk x = 1) (hk : k ≤ L) (hL : L ≤ x.length) : x = List.replicate k none ++ x.drop k := by
  have e : x.take k = List.replicate k none := by
    rw [List.eq_replicate_iff]
    refine ⟨by rw [List.length_take]; omega, fun o ho => ?_⟩
    have := h o (td_mem_take hk ho)
    rw [h1] at this
    rcases o with _ | _ | c
    · rfl
    · exact absurd this (by show ¬ (2 : Int32) = 1; decide)
    · exact absurd this (by show ¬ (3 : Int32) = 1; decide)
  rw [← e, List.take_append_drop]
theorem td_preD {x : List td_Op} {L k : Nat} (h : ∀ o, o ∈ x.take L → td_kd o = td_hk x) (h1 : td_hk x = 2) (hk : k ≤ L) (hL : L ≤ x.length) : x = List.replicate k (some none) ++ x.drop k := by
  have e : x.take k = List.replicate k (some none) := by
    rw [List.eq_replicate_iff]
    refine ⟨by rw [List.length_take]; omega, fun o ho => ?_⟩
    have := h o (td_mem_take hk ho)
    rw [h1] at this
    rcases o with _ | _ | c
    · exact absurd this (by show ¬ (1 : Int32) = 2; decide)
    · rfl
    · exact absurd this (by show ¬ (3 : Int32) = 2; decide)
  rw [← e, List.take_append_drop]
def td_AD (cs : List Int32) : List td_Op := cs.map (fun c => some (some c))
theorem td_allA (l : List td_Op) (h : ∀ o, o ∈ l → td_kd o = 3) : l = td_AD (td_lt l) ∧ (td_lt l).length = l.length := by
  induction l with
  | nil => exact ⟨rfl, rfl⟩
  | cons o l ih =>
    have i := ih (fun o' ho => h o' (List.mem_cons_of_mem _ ho))
    have k := h o (List.mem_cons_self ..)
    rcases o with _ | _ | c
    · exact absurd k (by show ¬ (1 : Int32) = 3; decide)
    · exact absurd k (by show ¬ (2 : Int32) = 3; decide)
    · refine ⟨?_, by simp only [td_lt, List.length_cons, i.2]⟩
      show some (some c) :: l = some (some c) :: td_AD (td_lt l)
      rw [← i.1]
theorem td_preA {x : List td_Op} {L k : Nat} (h : ∀ o, o ∈ x.take L → td_kd o = td_hk x) (h1 : td_hk x = 3) (hk : k ≤ L) (hL : L ≤ x.length) : ∃ cs : List Int32, cs.length = k ∧ x = td_AD cs ++ x.drop k := by
  have e := td_allA (x.take k) (fun o ho => by rw [← h1]; exact h o (td_mem_take hk ho))
  refine ⟨td_lt (x.take k), ?_, ?_⟩
  · rw [e.2, List.length_take]; omega
  · rw [← e.1, List.take_append_drop]
theorem td_lt_AD (cs : List Int32) : td_lt (td_AD cs) = cs := by
  induction cs with
  | nil => rfl
  | cons c cs ih =>
    show c :: td_lt (td_AD cs) = _
    rw [ih]
theorem td_in_AD (cs : List Int32) : td_in (td_AD cs) = 0 := by
  induction cs with
  | nil => rfl
  | cons c cs ih => exact ih
theorem td_ou_AD (cs : List Int32) : td_ou (td_AD cs) = cs.length := by
  induction cs with
  | nil => rfl
  | cons c cs ih =>
    show td_ou (td_AD cs) + 1 = _
    rw [ih]; rfl
theorem td_hk_cases {x : List td_Op} (h : x ≠ []) : td_hk x = 1 ∨ td_hk x = 2 ∨ td_hk x = 3 := by
  rcases x with _ | ⟨_ | _ | c, x⟩
  · exact absurd rfl h
  · exact Or.inl rfl
  · exact Or.inr (Or.inl rfl)
  · exact Or.inr (Or.inr rfl)
theorem td_CL_none {qf : Int32} {d : Nat} {x x' : List td_Op} (h : td_CL a7 qf d x) (e : td_lt x = td_lt x') : td_CL a7 qf d x' := by
  obtain ⟨f, h1, h2, h3, h4⟩ := h
  exact ⟨f, h1, h2, by rw [← e]; exact h3, by rw [← e]; exact h4⟩
theorem td_CL_add {f : Nat} {d : Nat} {x' : List td_Op} {cs : List Int32} (h2 : d * 40 ≤ f) (h3 : f + (td_lt (td_AD cs ++ x')).length ≤ d * 40 + 40) (h4 : td_sg a7 f (td_lt (td_AD cs ++ x'))) : td_sg a7 f cs ∧ f + cs.length ≤ d * 40 + 40 ∧ td_CL a7 (nI f + nI cs.length) d x' := by
  rw [td_lt_app, td_lt_AD] at h3 h4
  rw [List.length_append] at h3
  obtain ⟨k1, k2⟩ := (td_sg_app _ _ _).mp h4
  exact ⟨k1, by omega, f + cs.length, nI_add _ _, by omega, by omega, k2⟩
theorem td_aKind {post : Int32 → Prop} {d m L : Nat} {x : List td_Op} (hd : d < 4) (h : td_CR a3 a5 a6 q3 d x m L) (s : td_sd a1 a2 a3 a4 a5 a6 a7 b1 b2 b3 b4 b5 b6 b7 d) (hp : post (td_hk x)) : wpX_aKind post (q0, q1, (nI d), q3, q4, q5, q6, q7, q8, q9, b1, b2, b3, b4, b5, b6, b7, a8, a9) := by
  obtain ⟨i, rfl, h3, him, hx, hc⟩ := h
  unfold wpX_aKind
  dsimp only
  rw [nI_clamp (show d < 2 ^ 31 by omega), s.2.2.1, h3]
  refine ⟨vp_in_nI (by omega) (by omega), ?_⟩
  cases m with
  | zero =>
    have hx0 : x = [] := hc
    subst hx0
    exact br_t (nI_le (Nat.le_refl _) (by omega)) hp
  | succ m =>
    obtain ⟨h1, x1, x2, h2, hl, h4, h5⟩ := hc
    rw [td_e64, nI_clamp (show d * 64 + i < 2 ^ 31 by omega), (s.2.2.2.2.1 i (by omega)).1]
    refine br_f (nI_ge (by omega) (by omega)) ⟨vp_in_nI (by omega) (by omega), ?_⟩
    cases x1 with
    | nil => simp only [List.length_nil] at hl; omega
    | cons o x1 =>
      rw [← h4 o (List.mem_cons_self ..)]
      rw [h2] at hp
      exact hp
theorem td_aTake {d m L k : Nat} {x : List td_Op} (hd : d < 4) (h : td_CR a3 a5 a6 q3 d x m L) (s : td_sd a1 a2 a3 a4 a5 a6 a7 b1 b2 b3 b4 b5 b6 b7 d) (hm : m ≠ 0) (hk : 1 ≤ k) (hkL : k ≤ L) :
    ∃ (p : Int32) (m' L' : Nat), td_CR a3 a5 a6 p d (x.drop k) m' L' ∧ m' ≤ m ∧ (k = L → m' < m) ∧
      ∀ post : St1 → Prop, post (q0, q1, (nI d), p, (nI L'), q5, q6, q7, q8, q9, b1, b2, b3, b4, b5, b6, b7, a8, a9) → wpX_aTake post (q0, q1, (nI d), q3, (nI L), q5, q6, q7, q8, q9, b1, b2, b3, b4, b5, b6, b7, a8, a9) (nI k) := by
  obtain ⟨i, rfl, h3, him, hx, hc⟩ := h
  cases m with
  | zero => exact absurd rfl hm
  | succ m =>
    obtain ⟨h1, x1, x2, h2, hl, h4, h5⟩ := hc
    have hxl : x.length = L + x2.length := by rw [h2, List.length_append, hl]
    by_cases e : k = L
    · subst e
      have ed : x.drop k = x2 := by rw [h2, ← hl, List.drop_left]
      obtain ⟨L', g1, g2, g3⟩ := td_fu_cu m h5
      refine ⟨nI (i + 1), m, L', ⟨i + 1, rfl, by rw [h3]; congr 1; omega, by omega, by rw [ed]; omega, by rw [ed]; exact g3⟩, by omega, fun _ => by omega, fun post hp => ?_⟩
      unfold wpX_aTake
      dsimp only
      rw [nI_clamp (show d < 2 ^ 31 by omega), s.2.2.1, h3]
      refine nm_r (e' := nI 0) (by rw [pk_sub (Nat.le_refl k), Nat.sub_self]) (br_t rfl (nm_r (nI_1 i) ⟨vp_in_nI (by omega) (by omega), ?_⟩))
      by_cases hm0 : m = 0
      · subst hm0
        have hL' := g2 rfl
        subst hL'
        exact br_t (nI_le (by omega) (by omega)) hp
      · rw [td_e64, nI_clamp (show d * 64 + (i + 1) < 2 ^ 31 by omega), (s.2.2.2.2.1 (i + 1) (by omega)).2]
        refine br_f (nI_ge (by omega) (by omega)) ⟨vp_in_nI (by omega) (by omega), nm_r (g1 hm0) hp⟩
    · have ed : x.drop k = x1.drop k ++ x2 := by rw [h2, List.drop_append_of_le_length (by omega)]
      refine ⟨nI i, m + 1, L - k, ⟨i, rfl, h3, him, by rw [List.length_drop]; omega, ⟨by omega, x1.drop k, x2, ed, by rw [List.length_drop]; omega, fun o ho => h4 o (List.mem_of_mem_drop ho), h5⟩⟩, Nat.le_refl _, fun z => absurd z e, fun post hp => ?_⟩
      unfold wpX_aTake
      dsimp only
      exact nm_r (pk_sub hkL) (br_f (nI_ne0 (by omega) (by omega)) hp)
theorem td_bKind {post : Int32 → Prop} {d m L : Nat} {x : List td_Op} (hd : d < 4) (h : td_CR a3 a5 a6 q7 d x m L) (s : td_sd a1 a2 a3 a4 a5 a6 a7 b1 b2 b3 b4 b5 b6 b7 d) (hp : post (td_hk x)) : wpX_bKind post (q0, q1, q2, q3, q4, q5, (nI d), q7, q8, q9, b1, b2, b3, b4, b5, b6, b7, a8, a9) := by
  obtain ⟨i, rfl, h3, him, hx, hc⟩ := h
  unfold wpX_bKind
  dsimp only
  rw [nI_clamp (show d < 2 ^ 31 by omega), s.2.2.1, h3]
  refine ⟨vp_in_nI (by omega) (by omega), ?_⟩
  cases m with
  | zero =>
    have hx0 : x = [] := hc
    subst hx0
    exact br_t (nI_le (Nat.le_refl _) (by omega)) hp
  | succ m =>
    obtain ⟨h1, x1, x2, h2, hl, h4, h5⟩ := hc
    rw [td_e64, nI_clamp (show d * 64 + i < 2 ^ 31 by omega), (s.2.2.2.2.1 i (by omega)).1]
    refine br_f (nI_ge (by omega) (by omega)) ⟨vp_in_nI (by omega) (by omega), ?_⟩
    cases x1 with
    | nil => simp only [List.length_nil] at hl; omega
    | cons o x1 =>
      rw [← h4 o (List.mem_cons_self ..)]
      rw [h2] at hp
      exact hp
theorem td_bTake {d m L k : Nat} {x : List td_Op} (hd : d < 4) (h : td_CR a3 a5 a6 q7 d x m L) (s : td_sd a1 a2 a3 a4 a5 a6 a7 b1 b2 b3 b4 b5 b6 b7 d) (hm : m ≠ 0) (hk : 1 ≤ k) (hkL : k ≤ L) :
    ∃ (p : Int32) (m' L' : Nat), td_CR a3 a5 a6 p d (x.drop k) m' L' ∧ m' ≤ m ∧ (k = L → m' < m) ∧
      ∀ post : St1 → Prop, post (q0, q1, q2, q3, q4, q5, (nI d), p, (nI L'), q9, b1, b2, b3, b4, b5, b6, b7, a8, a9) → wpX_bTake post (q0, q1, q2, q3, q4, q5, (nI d), q7, (nI L), q9, b1, b2, b3, b4, b5, b6, b7, a8, a9) (nI k) := by
  obtain ⟨i, rfl, h3, him, hx, hc⟩ := h
  cases m with
  | zero => exact absurd rfl hm
  | succ m =>
    obtain ⟨h1, x1, x2, h2, hl, h4, h5⟩ := hc
    have hxl : x.length = L + x2.length := by rw [h2, List.length_append, hl]
    by_cases e : k = L
    · subst e
      have ed : x.drop k = x2 := by rw [h2, ← hl, List.drop_left]
      obtain ⟨L', g1, g2, g3⟩ := td_fu_cu m h5
      refine ⟨nI (i + 1), m, L', ⟨i + 1, rfl, by rw [h3]; congr 1; omega, by omega, by rw [ed]; omega, by rw [ed]; exact g3⟩, by omega, fun _ => by omega, fun post hp => ?_⟩
      unfold wpX_bTake
      dsimp only
      rw [nI_clamp (show d < 2 ^ 31 by omega), s.2.2.1, h3]
      refine nm_r (e' := nI 0) (by rw [pk_sub (Nat.le_refl k), Nat.sub_self]) (br_t rfl (nm_r (nI_1 i) ⟨vp_in_nI (by omega) (by omega), ?_⟩))
      by_cases hm0 : m = 0
      · subst hm0
        have hL' := g2 rfl
        subst hL'
        exact br_t (nI_le (by omega) (by omega)) hp
      · rw [td_e64, nI_clamp (show d * 64 + (i + 1) < 2 ^ 31 by omega), (s.2.2.2.2.1 (i + 1) (by omega)).2]
        refine br_f (nI_ge (by omega) (by omega)) ⟨vp_in_nI (by omega) (by omega), nm_r (g1 hm0) hp⟩
    · have ed : x.drop k = x1.drop k ++ x2 := by rw [h2, List.drop_append_of_le_length (by omega)]
      refine ⟨nI i, m + 1, L - k, ⟨i, rfl, h3, him, by rw [List.length_drop]; omega, ⟨by omega, x1.drop k, x2, ed, by rw [List.length_drop]; omega, fun o ho => h4 o (List.mem_of_mem_drop ho), h5⟩⟩, Nat.le_refl _, fun z => absurd z e, fun post hp => ?_⟩
      unfold wpX_bTake
      dsimp only
      exact nm_r (pk_sub hkL) (br_f (nI_ne0 (by omega) (by omega)) hp)
theorem td_both {post : Int32 → Prop} {La Lb : Nat} (hA : La ≤ 80) (hB : Lb ≤ 80) (hp : post (nI (min La Lb))) : wpX_both post (q0, q1, q2, q3, (nI La), q5, q6, q7, (nI Lb), q9, a1, a2, a3, a4, a5, a6, a7, a8, a9) := by
  unfold wpX_both
  dsimp only
  by_cases h : Lb ≤ La
  · rw [Nat.min_eq_right h] at hp
    exact br_t (nI_le h (by omega)) hp
  · rw [Nat.min_eq_left (by omega)] at hp
    exact br_f (nI_ge (by omega) (by omega)) hp
theorem td_aL2 {d f k : Nat} (hd : d < 4) (hf : d * 40 ≤ f) (hfk : f + k ≤ d * 40 + 40) : ∀ (cs : List Int32) (i : Nat) (W : List td_Op) (b2 b3 b4 b5 b6 b7 : Nat → Int32), i + cs.length = k → td_sg a7 (f + i) cs → W.length + cs.length ≤ 100 → (td_lt W).length + cs.length ≤ 40 → td_dl b2 b3 b4 b5 b6 b7 5 W → (∀ e, e < 5 → td_sd a1 a2 a3 a4 a5 a6 a7 a1 b2 b3 b4 b5 b6 b7 e) →
    ∃ c2 c3 c4 c5 c6 c7 : Nat → Int32, td_dl c2 c3 c4 c5 c6 c7 5 (td_fo W (td_AD cs)) ∧ (∀ e, e < 5 → td_sd a1 a2 a3 a4 a5 a6 a7 a1 c2 c3 c4 c5 c6 c7 e) ∧
      ∀ post : St1 → Prop, post (q0, q1, q2, q3, q4, (nI f + nI k), q6, q7, q8, q9, a1, c2, c3, c4, c5, c6, c7, a8, a9) → ∃ fu, wX_aLetters_2 post (nI k) fu (nI i) q0 q1 q2 q3 q4 (nI f) q6 q7 q8 q9 a1 b2 b3 b4 b5 b6 b7 a8 a9 := by
  intro cs
  induction cs with
  | nil =>
    intro i W b2 b3 b4 b5 b6 b7 hi _ _ _ hW hs
    have hi' : i = k := hi
    subst hi'
    exact ⟨b2, b3, b4, b5, b6, b7, hW, hs, fun post hp => ⟨1, br_t (nI_le (Nat.le_refl _) (by omega)) (nm_e hp)⟩⟩
  | cons c cs ih =>
    intro i W b2 b3 b4 b5 b6 b7 hi hg hb hl hW hs
    simp only [List.length_cons] at hi hb hl
    have hr := td_rr_le W
    obtain ⟨e2, e3, e4, e5, e6, e7, g1, g2, gw⟩ := @td_putAdd q0 q1 q2 q3 q4 (nI f) q6 q7 q8 q9 a1 b2 b3 b4 b5 b6 b7 a8 a9 5 W (by omega) hW (by omega) (by omega) c
    have wl := td_len W
    have wl' := td_len (td_ins c W)
    rw [td_in_ins, td_lt_ins] at wl'
    simp only [List.length_cons] at wl'
    obtain ⟨c2, c3, c4, c5, c6, c7, k1, k2, kw⟩ := ih (i + 1) (td_ins c W) e2 e3 e4 e5 e6 e7 (by omega) (by rw [← Nat.add_assoc]; exact hg.2) (by omega) (by rw [td_lt_ins]; simp only [List.length_cons]; omega) g1 (fun e he => td_sd_tr (hs e he) (g2 e he))
    refine ⟨c2, c3, c4, c5, c6, c7, k1, k2, fun post hp => ?_⟩
    obtain ⟨fu, hfu⟩ := kw post hp
    refine ⟨fu + 1, br_f (nI_ge (by omega) (by omega)) ?_⟩
    have er : b7 (f + i) = c := by
      have := (hs d (by omega)).2.2.2.2.2 (f + i - d * 40) (by omega)
      rw [show d * 40 + (f + i - d * 40) = f + i by omega] at this
      rw [this]; exact hg.1
    rw [nI_add f i, nI_clamp (show f + i < 2 ^ 31 by omega), er]
    exact ⟨vp_in_nI (by omega) (by omega), gw _ (nm_r (nI_1 i) hfu)⟩
theorem td_aLetters {d f : Nat} {W : List td_Op} {cs : List Int32} (hd : d < 4) (hf : d * 40 ≤ f) (hfk : f + cs.length ≤ d * 40 + 40) (hg : td_sg a7 f cs) (hb : W.length + cs.length ≤ 100) (hl : (td_lt W).length + cs.length ≤ 40) (hW : td_dl b2 b3 b4 b5 b6 b7 5 W) (hs : ∀ e, e < 5 → td_sd a1 a2 a3 a4 a5 a6 a7 a1 b2 b3 b4 b5 b6 b7 e) :
    ∃ c2 c3 c4 c5 c6 c7 : Nat → Int32, td_dl c2 c3 c4 c5 c6 c7 5 (td_fo W (td_AD cs)) ∧ (∀ e, e < 5 → td_sd a1 a2 a3 a4 a5 a6 a7 a1 c2 c3 c4 c5 c6 c7 e) ∧
      ∀ post : St1 → Prop, post (q0, q1, q2, q3, q4, (nI f + nI cs.length), q6, q7, q8, q9, a1, c2, c3, c4, c5, c6, c7, a8, a9) → wpX_aLetters post (q0, q1, q2, q3, q4, (nI f), q6, q7, q8, q9, a1, b2, b3, b4, b5, b6, b7, a8, a9) (nI cs.length) :=
  td_aL2 hd hf hfk cs 0 W b2 b3 b4 b5 b6 b7 (Nat.zero_add _) hg hb hl hW hs
theorem td_bL2 {d f k : Nat} (hd : d < 4) (hf : d * 40 ≤ f) (hfk : f + k ≤ d * 40 + 40) : ∀ (cs : List Int32) (i : Nat) (W : List td_Op) (b2 b3 b4 b5 b6 b7 : Nat → Int32), i + cs.length = k → td_sg a7 (f + i) cs → W.length + cs.length ≤ 100 → (td_lt W).length + cs.length ≤ 40 → td_dl b2 b3 b4 b5 b6 b7 5 W → (∀ e, e < 5 → td_sd a1 a2 a3 a4 a5 a6 a7 a1 b2 b3 b4 b5 b6 b7 e) →
    ∃ c2 c3 c4 c5 c6 c7 : Nat → Int32, td_dl c2 c3 c4 c5 c6 c7 5 (td_fo W (td_AD cs)) ∧ (∀ e, e < 5 → td_sd a1 a2 a3 a4 a5 a6 a7 a1 c2 c3 c4 c5 c6 c7 e) ∧
      ∀ post : St1 → Prop, post (q0, q1, q2, q3, q4, q5, q6, q7, q8, (nI f + nI k), a1, c2, c3, c4, c5, c6, c7, a8, a9) → ∃ fu, wX_bLetters_2 post (nI k) fu (nI i) q0 q1 q2 q3 q4 q5 q6 q7 q8 (nI f) a1 b2 b3 b4 b5 b6 b7 a8 a9 := by
  intro cs
  induction cs with
  | nil =>
    intro i W b2 b3 b4 b5 b6 b7 hi _ _ _ hW hs
    have hi' : i = k := hi
    subst hi'
    exact ⟨b2, b3, b4, b5, b6, b7, hW, hs, fun post hp => ⟨1, br_t (nI_le (Nat.le_refl _) (by omega)) (nm_e hp)⟩⟩
  | cons c cs ih =>
    intro i W b2 b3 b4 b5 b6 b7 hi hg hb hl hW hs
    simp only [List.length_cons] at hi hb hl
    have hr := td_rr_le W
    obtain ⟨e2, e3, e4, e5, e6, e7, g1, g2, gw⟩ := @td_putAdd q0 q1 q2 q3 q4 q5 q6 q7 q8 (nI f) a1 b2 b3 b4 b5 b6 b7 a8 a9 5 W (by omega) hW (by omega) (by omega) c
    have wl := td_len W
    have wl' := td_len (td_ins c W)
    rw [td_in_ins, td_lt_ins] at wl'
    simp only [List.length_cons] at wl'
    obtain ⟨c2, c3, c4, c5, c6, c7, k1, k2, kw⟩ := ih (i + 1) (td_ins c W) e2 e3 e4 e5 e6 e7 (by omega) (by rw [← Nat.add_assoc]; exact hg.2) (by omega) (by rw [td_lt_ins]; simp only [List.length_cons]; omega) g1 (fun e he => td_sd_tr (hs e he) (g2 e he))
    refine ⟨c2, c3, c4, c5, c6, c7, k1, k2, fun post hp => ?_⟩
    obtain ⟨fu, hfu⟩ := kw post hp
    refine ⟨fu + 1, br_f (nI_ge (by omega) (by omega)) ?_⟩
    have er : b7 (f + i) = c := by
      have := (hs d (by omega)).2.2.2.2.2 (f + i - d * 40) (by omega)
      rw [show d * 40 + (f + i - d * 40) = f + i by omega] at this
      rw [this]; exact hg.1
    rw [nI_add f i, nI_clamp (show f + i < 2 ^ 31 by omega), er]
    exact ⟨vp_in_nI (by omega) (by omega), gw _ (nm_r (nI_1 i) hfu)⟩
theorem td_bLetters {d f : Nat} {W : List td_Op} {cs : List Int32} (hd : d < 4) (hf : d * 40 ≤ f) (hfk : f + cs.length ≤ d * 40 + 40) (hg : td_sg a7 f cs) (hb : W.length + cs.length ≤ 100) (hl : (td_lt W).length + cs.length ≤ 40) (hW : td_dl b2 b3 b4 b5 b6 b7 5 W) (hs : ∀ e, e < 5 → td_sd a1 a2 a3 a4 a5 a6 a7 a1 b2 b3 b4 b5 b6 b7 e) :
    ∃ c2 c3 c4 c5 c6 c7 : Nat → Int32, td_dl c2 c3 c4 c5 c6 c7 5 (td_fo W (td_AD cs)) ∧ (∀ e, e < 5 → td_sd a1 a2 a3 a4 a5 a6 a7 a1 c2 c3 c4 c5 c6 c7 e) ∧
      ∀ post : St1 → Prop, post (q0, q1, q2, q3, q4, q5, q6, q7, q8, (nI f + nI cs.length), a1, c2, c3, c4, c5, c6, c7, a8, a9) → wpX_bLetters post (q0, q1, q2, q3, q4, q5, q6, q7, q8, (nI f), a1, b2, b3, b4, b5, b6, b7, a8, a9) (nI cs.length) :=
  td_bL2 hd hf hfk cs 0 W b2 b3 b4 b5 b6 b7 (Nat.zero_add _) hg hb hl hW hs
theorem td_ob41 {post : St1 → Prop} {z0 : Int32} {d n L : Nat} (hd : d < 4) (h3 : a3 d = nI n) (hn : n ≤ 64) (h6 : n ≠ 0 → a6 (d * 64) = nI L) (h0 : n = 0 → L = 0) (hp : post (q0, q1, q2, q3, z0, q5, (nI d), 0, (nI L), (nI d * 40), a1, a2, a3, a4, a5, a6, a7, a8, a9)) : wX_openBoth_41 post (nI d) z0 q0 q1 q2 q3 q4 q5 q6 q7 q8 q9 a1 a2 a3 a4 a5 a6 a7 a8 a9 := by
  unfold wX_openBoth_41
  rw [nI_clamp (show d < 2 ^ 31 by omega), h3, td_m64, nI_clamp (show d * 64 < 2 ^ 31 by omega)]
  refine nm_e ⟨vp_in_nI (by omega) (by omega), ?_⟩
  by_cases e : n = 0
  · have hL := h0 e
    subst e
    subst hL
    exact br_t (by decide) hp
  · exact br_f (nI_nle (by omega) (by omega)) ⟨vp_in_nI (by omega) (by omega), nm_r (h6 e) hp⟩
theorem td_openBoth {da db : Nat} {Wa Wb : List td_Op} (ha : da < 4) (hb : db < 4) (hA : td_SL a1 a2 a3 a4 a5 a6 a7 da Wa) (hB : td_SL a1 a2 a3 a4 a5 a6 a7 db Wb) :
    ∃ La Lb, td_CR a3 a5 a6 0 da Wa.reverse (td_rr Wa).length La ∧ td_CR a3 a5 a6 0 db Wb.reverse (td_rr Wb).length Lb ∧
      ∀ post : St1 → Prop, post (q0, q1, (nI da), 0, (nI La), (nI da * 40), (nI db), 0, (nI Lb), (nI db * 40), a1, a2, a3, a4, a5, a6, a7, a8, a9) → wpX_openBoth post (q0, q1, q2, q3, q4, q5, q6, q7, q8, q9, a1, a2, a3, a4, a5, a6, a7, a8, a9) (nI da) (nI db) := by
  have cA := td_SL_cap hA
  have cB := td_SL_cap hB
  obtain ⟨_, ⟨_, hA3, _, hA5, _⟩, _, hAi, hAo⟩ := hA
  obtain ⟨_, ⟨_, hB3, _, hB5, _⟩, _, hBi, hBo⟩ := hB
  obtain ⟨La, A1, A2, A3⟩ := td_fu_cu _ (td_rv_fu _ Wa rfl hA5)
  obtain ⟨Lb, B1, B2, B3⟩ := td_fu_cu _ (td_rv_fu _ Wb rfl hB5)
  have lA := td_len Wa
  have lB := td_len Wb
  refine ⟨La, Lb, ⟨0, rfl, by rw [Nat.zero_add]; exact hA3, by omega, by rw [List.length_reverse]; omega, A3⟩, ⟨0, rfl, by rw [Nat.zero_add]; exact hB3, by omega, by rw [List.length_reverse]; omega, B3⟩, fun post hp => ?_⟩
  unfold wpX_openBoth
  dsimp only
  rw [nI_clamp (show da < 2 ^ 31 by omega), hA3, td_m64 da, nI_clamp (show da * 64 < 2 ^ 31 by omega)]
  refine nm_e ⟨vp_in_nI (by omega) (by omega), ?_⟩
  by_cases e : (td_rr Wa).length = 0
  · have hL := A2 e
    subst hL
    rw [e]
    exact br_t (by decide) (td_ob41 hb hB3 (by omega) B1 B2 hp)
  · refine br_f (nI_nle (by omega) (by omega)) ⟨vp_in_nI (by omega) (by omega), ?_⟩
    rw [A1 e]
    exact td_ob41 hb hB3 (by omega) B1 B2 hp
end
end
section
/-! Part 07: join. -/
section
variable {q0 q1 q2 q3 q4 q5 q6 q7 q8 q9 : Int32} {a1 a2 a3 a4 a5 a6 a7 a8 a9 : Nat → Int32}
variable {b1 b2 b3 b4 b5 b6 b7 : Nat → Int32}
theorem td_rep_cons {α : Type} (n : Nat) (o : α) (l : List α) : List.replicate n o ++ o :: l = o :: (List.replicate n o ++ l) := by
  induction n with
  | zero => rfl
  | succ n ih => rw [List.replicate_succ, List.cons_append, ih, List.cons_append]
theorem td_fo_K (n : Nat) (W l : List td_Op) : td_fo W (List.replicate n none ++ l) = td_fo (List.replicate n none ++ W) l := by
  induction n generalizing W with
  | zero => rfl
  | succ n ih =>
    rw [List.replicate_succ, List.cons_append]
    show td_fo (none :: W) (List.replicate n none ++ l) = _
    rw [ih, td_rep_cons, List.cons_append]
theorem td_fo_D (n : Nat) (W l : List td_Op) : td_fo W (List.replicate n (some none) ++ l) = td_fo (List.replicate n (some none) ++ W) l := by
  induction n generalizing W with
  | zero => rfl
  | succ n ih =>
    rw [List.replicate_succ, List.cons_append]
    show td_fo (some none :: W) (List.replicate n (some none) ++ l) = _
    rw [ih, td_rep_cons, List.cons_append]
theorem td_fo_len (W l : List td_Op) : (td_fo W l).length = W.length + l.length := by
  rw [td_len (td_fo W l), td_len W, td_len l, td_in_fo, td_la_fo]; omega
theorem td_jn_D (n : Nat) (x y : List td_Op) : td_jn (List.replicate n (some none) ++ x) y = List.replicate n (some none) ++ td_jn x y := by
  induction n with
  | zero => rfl
  | succ n ih => rw [List.replicate_succ, List.cons_append, td_jn, ih, List.cons_append]
theorem td_jn_A (cs : List Int32) (x y : List td_Op) (h : td_hk x ≠ 2) : td_jn x (td_AD cs ++ y) = td_AD cs ++ td_jn x y := by
  induction cs with
  | nil => rfl
  | cons c cs ih =>
    show td_jn x (some (some c) :: (td_AD cs ++ y)) = some (some c) :: (td_AD cs ++ td_jn x y)
    rw [← ih]
    rcases x with _ | ⟨_ | _ | e, x⟩
    · rw [td_jn]
    · rw [td_jn]
    · exact absurd rfl h
    · rw [td_jn]
theorem td_jn_KK (n : Nat) (x y : List td_Op) : td_jn (List.replicate n none ++ x) (List.replicate n none ++ y) = List.replicate n none ++ td_jn x y := by
  induction n with
  | zero => rfl
  | succ n ih => rw [List.replicate_succ, List.cons_append, List.cons_append, td_jn, ih, List.cons_append]
theorem td_jn_KD (n : Nat) (x y : List td_Op) : td_jn (List.replicate n none ++ x) (List.replicate n (some none) ++ y) = List.replicate n (some none) ++ td_jn x y := by
  induction n with
  | zero => rfl
  | succ n ih => rw [List.replicate_succ, List.replicate_succ, List.cons_append, List.cons_append, td_jn, ih, List.cons_append]
theorem td_jn_AK (cs : List Int32) (x y : List td_Op) : td_jn (td_AD cs ++ x) (List.replicate cs.length none ++ y) = td_AD cs ++ td_jn x y := by
  induction cs with
  | nil => rfl
  | cons c cs ih =>
    show td_jn (some (some c) :: (td_AD cs ++ x)) (List.replicate (cs.length + 1) none ++ y) = some (some c) :: (td_AD cs ++ td_jn x y)
    rw [List.replicate_succ, List.cons_append, td_jn, ih]
theorem td_jn_AD (cs : List Int32) (x y : List td_Op) : td_jn (td_AD cs ++ x) (List.replicate cs.length (some none) ++ y) = td_jn x y := by
  induction cs with
  | nil => rfl
  | cons c cs ih =>
    show td_jn (some (some c) :: (td_AD cs ++ x)) (List.replicate (cs.length + 1) (some none) ++ y) = td_jn x y
    rw [List.replicate_succ, List.cons_append, td_jn, ih]
/-- both cursors and the result under way; a: the arrays behind the wipe, b: now -/
def td_I2 (a1 a2 a3 a4 a5 a6 a7 b2 b3 b4 b5 b6 b7 : Nat → Int32) (q3 q4 q5 q7 q8 q9 : Int32) (da db : Nat) (x y W : List td_Op) (ma mb : Nat) : Prop :=
  ∃ La Lb, td_CR a3 a5 a6 q3 da x ma La ∧ td_CR a3 a5 a6 q7 db y mb Lb ∧ q4 = nI La ∧ q8 = nI Lb ∧ td_CL a7 q5 da x ∧ td_CL a7 q9 db y ∧ td_dl b2 b3 b4 b5 b6 b7 5 W ∧ (∀ e, e < 5 → td_sd a1 a2 a3 a4 a5 a6 a7 a1 b2 b3 b4 b5 b6 b7 e)
theorem td_j56 {da db k ma mb La Lb : Nat} {x y : List td_Op} (ha : da < 4) (hb : db < 4) (hA : td_CR a3 a5 a6 q3 da x ma La) (hB : td_CR a3 a5 a6 q7 db y mb Lb) (hs : ∀ e, e < 5 → td_sd a1 a2 a3 a4 a5 a6 a7 a1 b2 b3 b4 b5 b6 b7 e) (hma : ma ≠ 0) (hmb : mb ≠ 0) (hk : 1 ≤ k) (hka : k ≤ La) (hkb : k ≤ Lb) (hk2 : k = La ∨ k = Lb) :
    ∃ (p3 p7 : Int32) (ma' mb' La' Lb' : Nat), td_CR a3 a5 a6 p3 da (x.drop k) ma' La' ∧ td_CR a3 a5 a6 p7 db (y.drop k) mb' Lb' ∧ ma' + mb' < ma + mb ∧
      ∀ post : St1 → Prop, post (q0, q1, (nI da), p3, (nI La'), q5, (nI db), p7, (nI Lb'), q9, a1, b2, b3, b4, b5, b6, b7, a8, a9) → wX_joinStep_56 post (nI k) q0 q1 (nI da) q3 (nI La) q5 (nI db) q7 (nI Lb) q9 a1 b2 b3 b4 b5 b6 b7 a8 a9 := by
  obtain ⟨p3, ma', La', A1, A2, A3, Aw⟩ := td_aTake (q0 := q0) (q1 := q1) (q5 := q5) (q6 := (nI db)) (q7 := q7) (q8 := (nI Lb)) (q9 := q9) (a8 := a8) (a9 := a9) ha hA (hs da (by omega)) hma hk hka
  obtain ⟨p7, mb', Lb', B1, B2, B3, Bw⟩ := td_bTake (q0 := q0) (q1 := q1) (q2 := (nI da)) (q3 := p3) (q4 := (nI La')) (q5 := q5) (q9 := q9) (a8 := a8) (a9 := a9) hb hB (hs db (by omega)) hmb hk hkb
  refine ⟨p3, p7, ma', mb', La', Lb', A1, B1, ?_, fun post hp => ?_⟩
  · rcases hk2 with z | z
    · have := A3 z; omega
    · have := B3 z; omega
  · unfold wX_joinStep_56
    exact Aw _ (Bw _ hp)
theorem td_j153 {post : Int32 → St1 → Prop} {J : Int32 → Int32 → Int32 → Int32 → Int32 → Int32 → Int32 → Int32 → Int32 → Int32 → Int32 → Int32 → Int32 → (Nat → Int32) → (Nat → Int32) → (Nat → Int32) → (Nat → Int32) → (Nat → Int32) → (Nat → Int32) → (Nat → Int32) → (Nat → Int32) → (Nat → Int32) → Prop} {x3 : Int32} {da db ma mb La Lb r : Nat} {x y : List td_Op} (ha : da < 4) (hb : db < 4) (hA : td_CR a3 a5 a6 q3 da x ma La) (hB : td_CR a3 a5 a6 q7 db y mb Lb) (hs : ∀ e, e < 5 → td_sd a1 a2 a3 a4 a5 a6 a7 a1 b2 b3 b4 b5 b6 b7 e)
    (hJ : J (td_hk x) (td_hk y) (nI (r + 1)) q0 q1 (nI da) q3 q4 q5 (nI db) q7 q8 q9 a1 b2 b3 b4 b5 b6 b7 a8 a9) : wX_join_153 post J x3 (nI r) q0 q1 (nI da) q3 q4 q5 (nI db) q7 q8 q9 a1 b2 b3 b4 b5 b6 b7 a8 a9 := by
  unfold wX_join_153
  exact td_aKind ha hA (hs da (by omega)) (td_bKind hb hB (hs db (by omega)) (nm_r (nI_1 r) hJ))
theorem td_c30 {da db k ma mb La Lb : Nat} {x y : List td_Op} (ha : da < 4) (hb : db < 4) (hA : td_CR a3 a5 a6 q3 da x ma La) (hB : td_CR a3 a5 a6 q7 db y mb Lb) (hs : ∀ e, e < 5 → td_sd a1 a2 a3 a4 a5 a6 a7 a1 b2 b3 b4 b5 b6 b7 e) (hma : ma ≠ 0) (hmb : mb ≠ 0) (hk : 1 ≤ k) (hka : k ≤ La) (hkb : k ≤ Lb) (hk2 : k = La ∨ k = Lb) :
    ∃ (p3 p7 : Int32) (ma' mb' La' Lb' : Nat), td_CR a3 a5 a6 p3 da (x.drop k) ma' La' ∧ td_CR a3 a5 a6 p7 db (y.drop k) mb' Lb' ∧ ma' + mb' < ma + mb ∧
      ∀ post : St1 → Prop, post (q0, q1, (nI da), p3, (nI La'), q5, (nI db), p7, (nI Lb'), q9, a1, b2, b3, b4, b5, b6, b7, a8, a9) → wX_carryStep_30 post (nI k) q0 q1 (nI da) q3 (nI La) q5 (nI db) q7 (nI Lb) q9 a1 b2 b3 b4 b5 b6 b7 a8 a9 := by
  obtain ⟨p3, ma', La', A1, A2, A3, Aw⟩ := td_aTake (q0 := q0) (q1 := q1) (q5 := q5) (q6 := (nI db)) (q7 := q7) (q8 := (nI Lb)) (q9 := q9) (a8 := a8) (a9 := a9) ha hA (hs da (by omega)) hma hk hka
  obtain ⟨p7, mb', Lb', B1, B2, B3, Bw⟩ := td_bTake (q0 := q0) (q1 := q1) (q2 := (nI da)) (q3 := p3) (q4 := (nI La')) (q5 := q5) (q9 := q9) (a8 := a8) (a9 := a9) hb hB (hs db (by omega)) hmb hk hkb
  refine ⟨p3, p7, ma', mb', La', Lb', A1, B1, ?_, fun post hp => ?_⟩
  · rcases hk2 with z | z
    · have := A3 z; omega
    · have := B3 z; omega
  · unfold wX_carryStep_30
    exact Aw _ (Bw _ hp)
theorem td_c164 {post : Int32 → St1 → Prop} {J : Int32 → Int32 → Int32 → Int32 → Int32 → Int32 → Int32 → Int32 → Int32 → Int32 → Int32 → Int32 → Int32 → (Nat → Int32) → (Nat → Int32) → (Nat → Int32) → (Nat → Int32) → (Nat → Int32) → (Nat → Int32) → (Nat → Int32) → (Nat → Int32) → (Nat → Int32) → Prop} {x3 x4 : Int32} {da db ma mb La Lb r : Nat} {x y : List td_Op} (ha : da < 4) (hb : db < 4) (hA : td_CR a3 a5 a6 q3 da x ma La) (hB : td_CR a3 a5 a6 q7 db y mb Lb) (hs : ∀ e, e < 5 → td_sd a1 a2 a3 a4 a5 a6 a7 a1 b2 b3 b4 b5 b6 b7 e)
    (hJ : J (td_hk x) (td_hk y) (nI (r + 1)) q0 q1 (nI da) q3 q4 q5 (nI db) q7 q8 q9 a1 b2 b3 b4 b5 b6 b7 a8 a9) : wX_carry_164 post J x3 x4 (nI r) q0 q1 (nI da) q3 q4 q5 (nI db) q7 q8 q9 a1 b2 b3 b4 b5 b6 b7 a8 a9 := by
  unfold wX_carry_164
  exact td_aKind ha hA (hs da (by omega)) (td_bKind hb hB (hs db (by omega)) (nm_r (nI_1 r) hJ))
/-- what a round of a loop over both cursors owes: JW is the round's predicate, tail its law -/
theorem td_jstep {da db ma mb r : Nat} {x y W : List td_Op} (ha : da < 4) (hb : db < 4) (I : td_I2 a1 a2 a3 a4 a5 a6 a7 b2 b3 b4 b5 b6 b7 q3 q4 q5 q7 q8 q9 da db x y W ma mb) (hne : x ≠ [] ∨ y ≠ []) (hio : td_ou x = td_in y) (hT : (td_fo W (td_jn x y)).length ≤ 80) (hTl : (td_lt (td_fo W (td_jn x y))).length ≤ 40) :
    ∃ (p3 p4 p5 p7 p8 p9 : Int32) (c2 c3 c4 c5 c6 c7 : Nat → Int32) (x' y' W' : List td_Op) (ma' mb' : Nat), td_I2 a1 a2 a3 a4 a5 a6 a7 c2 c3 c4 c5 c6 c7 p3 p4 p5 p7 p8 p9 da db x' y' W' ma' mb' ∧ ma' + mb' < ma + mb ∧ td_ou x' = td_in y' ∧ td_fo W' (td_jn x' y') = td_fo W (td_jn x y) ∧
      ∀ (post : Int32 → St1 → Prop) (J : Int32 → Int32 → Int32 → Int32 → Int32 → Int32 → Int32 → Int32 → Int32 → Int32 → Int32 → Int32 → Int32 → (Nat → Int32) → (Nat → Int32) → (Nat → Int32) → (Nat → Int32) → (Nat → Int32) → (Nat → Int32) → (Nat → Int32) → (Nat → Int32) → (Nat → Int32) → Prop) (x3 : Int32),
        J (td_hk x') (td_hk y') (nI (r + 1)) q0 q1 (nI da) p3 p4 p5 (nI db) p7 p8 p9 a1 c2 c3 c4 c5 c6 c7 a8 a9 → wX_join_94 post J x3 (td_hk x) (td_hk y) (nI r) q0 q1 (nI da) q3 q4 q5 (nI db) q7 q8 q9 a1 b2 b3 b4 b5 b6 b7 a8 a9 := by
  obtain ⟨La, Lb, hA, hB, rfl, rfl, hLA, hLB, hW, hs⟩ := I
  have lW := td_fo_len W (td_jn x y)
  have lL := td_la_fo (td_jn x y) W
  have rW := td_rr_le W
  by_cases k1 : td_hk x = 2
  · have hx : x ≠ [] := fun z => by rw [z] at k1; exact absurd k1 (by show ¬ (0 : Int32) = 2; decide)
    obtain ⟨L1, L2, L3, L4⟩ := td_CR_pre hA hx
    have ex := td_preD L4 k1 (Nat.le_refl La) L2
    obtain ⟨c3, c5, c6, g1, g2, gw⟩ := @td_putDrop q0 q1 (nI da) q3 (nI La) q5 (nI db) q7 (nI Lb) q9 a1 b2 b3 b4 b5 b6 b7 a8 a9 5 W (by omega) hW (by omega) La (by omega)
    have hs' : ∀ e, e < 5 → td_sd a1 a2 a3 a4 a5 a6 a7 a1 b2 c3 b4 c5 c6 b7 e := fun e he => td_sd_tr (hs e he) (g2 e he)
    obtain ⟨p3, ma', La', A1, A2, A3, Aw⟩ := td_aTake (q0 := q0) (q1 := q1) (q5 := q5) (q6 := (nI db)) (q7 := q7) (q8 := (nI Lb)) (q9 := q9) (a8 := a8) (a9 := a9) ha hA (hs' da (by omega)) (td_CR_ne hA hx) L1 (Nat.le_refl _)
    have e1 : td_lt x = td_lt (x.drop La) := by
      rw [congrArg td_lt ex, td_lt_app, td_lt_D]; rfl
    have e2 : td_ou x = td_ou (x.drop La) := by
      rw [congrArg td_ou ex, td_ou_app, td_ou_D, Nat.zero_add]
    have e3 : td_jn x y = List.replicate La (some none) ++ td_jn (x.drop La) y := by
      rw [← td_jn_D, ← ex]
    refine ⟨p3, nI La', q5, q7, nI Lb, q9, b2, c3, b4, c5, c6, b7, x.drop La, y, List.replicate La (some none) ++ W, ma', mb, ⟨La', Lb, A1, hB, rfl, rfl, td_CL_none hLA e1, hLB, g1, hs'⟩, ?_, ?_, ?_, fun post J x3 hJ => ?_⟩
    · have := A3 rfl; omega
    · omega
    · rw [e3, td_fo_D]
    · unfold wX_join_94
      exact br_t k1 (gw _ (Aw _ (td_j153 ha hb A1 hB hs' hJ)))
  · by_cases k2 : td_hk y = 3
    · have hy : y ≠ [] := fun z => by rw [z] at k2; exact absurd k2 (by show ¬ (0 : Int32) = 3; decide)
      obtain ⟨L1, L2, L3, L4⟩ := td_CR_pre hB hy
      obtain ⟨cs, ecs, ey⟩ := td_preA L4 k2 (Nat.le_refl Lb) L2
      obtain ⟨f, rfl, F1, F2, F3⟩ := hLB
      have F2' := F2
      have F3' := F3
      rw [congrArg td_lt ey] at F2' F3'
      obtain ⟨G1, G2, G3⟩ := td_CL_add F1 F2' F3'
      have e3 : td_jn x y = td_AD cs ++ td_jn x (y.drop Lb) := by
        rw [← td_jn_A cs x _ k1, ← ey]
      have e4 : (td_jn x y).length = cs.length + (td_jn x (y.drop Lb)).length := by
        rw [e3, List.length_append]; simp [td_AD]
      have e5 : (td_lt (td_jn x y)).length = cs.length + (td_lt (td_jn x (y.drop Lb))).length := by
        rw [e3, td_lt_app, td_lt_AD, List.length_append]
      obtain ⟨c2, c3, c4, c5, c6, c7, g1, g2, gw⟩ := td_bLetters (q0 := q0) (q1 := q1) (q2 := (nI da)) (q3 := q3) (q4 := (nI La)) (q5 := q5) (q6 := (nI db)) (q7 := q7) (q8 := (nI Lb)) (a8 := a8) (a9 := a9) hb F1 G2 G1 (by omega) (by omega) hW hs
      subst ecs
      obtain ⟨p7, mb', Lb', B1, B2, B3, Bw⟩ := td_bTake (q0 := q0) (q1 := q1) (q2 := (nI da)) (q3 := q3) (q4 := (nI La)) (q5 := q5) (q9 := (nI f + nI cs.length)) (a8 := a8) (a9 := a9) hb hB (g2 db (by omega)) (td_CR_ne hB hy) L1 (Nat.le_refl _)
      refine ⟨q3, nI La, q5, p7, nI Lb', nI f + nI cs.length, c2, c3, c4, c5, c6, c7, x, y.drop cs.length, td_fo W (td_AD cs), ma, mb', ⟨La, Lb', hA, B1, rfl, rfl, hLA, G3, g1, g2⟩, ?_, ?_, ?_, fun post J x3 hJ => ?_⟩
      · have := B3 rfl; omega
      · rw [hio, congrArg td_in ey, td_in_app, td_in_AD, Nat.zero_add]
      · rw [e3, td_fo_app]
      · unfold wX_join_94
        exact br_f k1 (br_t k2 (gw _ (Bw _ (td_j153 ha hb hA B1 g2 hJ))))
    · have hx : x ≠ [] := by
        intro z
        subst z
        rcases y with _ | ⟨_ | _ | c, y⟩
        · rcases hne with h | h <;> exact h rfl
        · simp only [td_ou, td_in] at hio; omega
        · simp only [td_ou, td_in] at hio; omega
        · exact k2 rfl
      have hy : y ≠ [] := by
        intro z
        subst z
        rcases x with _ | ⟨_ | _ | c, x⟩
        · exact hx rfl
        · simp only [td_ou, td_in] at hio; omega
        · exact k1 rfl
        · simp only [td_ou, td_in] at hio; omega
      obtain ⟨A1, A2, A3, A4⟩ := td_CR_pre hA hx
      obtain ⟨B1, B2, B3, B4⟩ := td_CR_pre hB hy
      have m1 : min La Lb ≤ La := Nat.min_le_left _ _
      have m2 : min La Lb ≤ Lb := Nat.min_le_right _ _
      have m3 : 1 ≤ min La Lb := Nat.le_min.mpr ⟨A1, B1⟩
      have m4 : min La Lb = La ∨ min La Lb = Lb := by omega
      generalize hk : min La Lb = k at m1 m2 m3 m4
      have hma := td_CR_ne hA hx
      have hmb := td_CR_ne hB hy
      have k3 : td_hk x = 1 ∨ td_hk x = 3 := by
        rcases td_hk_cases hx with z | z | z
        · exact Or.inl z
        · exact absurd z k1
        · exact Or.inr z
      have k4 : td_hk y = 1 ∨ td_hk y = 2 := by
        rcases td_hk_cases hy with z | z | z
        · exact Or.inl z
        · exact Or.inr z
        · exact absurd z k2
      have n31 : ¬ (3 : Int32) = 1 := by decide
      have n21 : ¬ (2 : Int32) = 1 := by decide
      rcases k3 with k3 | k3
      · have ex := td_preK A4 k3 m1 A2
        rcases k4 with k4 | k4
        · have ey := td_preK B4 k4 m2 B2
          obtain ⟨c2, c3, c5, c6, g1, g2, gw⟩ := @td_putKeep q0 q1 (nI da) q3 (nI La) q5 (nI db) q7 (nI Lb) q9 a1 b2 b3 b4 b5 b6 b7 a8 a9 5 W (by omega) hW (by omega) k (by omega)
          have hs' : ∀ e, e < 5 → td_sd a1 a2 a3 a4 a5 a6 a7 a1 c2 c3 b4 c5 c6 b7 e := fun e he => td_sd_tr (hs e he) (g2 e he)
          obtain ⟨p3, p7, ma', mb', La', Lb', T1, T2, T3, Tw⟩ := td_j56 (q0 := q0) (q1 := q1) (q5 := q5) (q9 := q9) (a8 := a8) (a9 := a9) ha hb hA hB hs' hma hmb m3 m1 m2 (by omega)
          have e3 : td_jn x y = List.replicate k none ++ td_jn (x.drop k) (y.drop k) := by
            rw [← td_jn_KK, ← ex, ← ey]
          have ox := congrArg td_ou ex
          have oy := congrArg td_in ey
          rw [td_ou_app, td_ou_K] at ox
          rw [td_in_app, td_in_K] at oy
          have lx := congrArg td_lt ex
          have ly := congrArg td_lt ey
          rw [td_lt_app, td_lt_K, List.nil_append] at lx ly
          refine ⟨p3, nI La', q5, p7, nI Lb', q9, c2, c3, b4, c5, c6, b7, x.drop k, y.drop k, List.replicate k none ++ W, ma', mb', ⟨La', Lb', T1, T2, rfl, rfl, td_CL_none hLA lx, td_CL_none hLB ly, g1, hs'⟩, T3, by omega, by rw [e3, td_fo_K], fun post J x3 hJ => ?_⟩
          unfold wX_join_94
          refine br_f k1 (br_f k2 ?_)
          unfold wpX_joinStep
          dsimp only
          refine td_both A3 B3 ?_
          rw [hk]
          exact br_t k3 (br_t k4 (gw _ (Tw _ (td_j153 ha hb T1 T2 hs' hJ))))
        · have ey := td_preD B4 k4 m2 B2
          obtain ⟨c3, c5, c6, g1, g2, gw⟩ := @td_putDrop q0 q1 (nI da) q3 (nI La) q5 (nI db) q7 (nI Lb) q9 a1 b2 b3 b4 b5 b6 b7 a8 a9 5 W (by omega) hW (by omega) k (by omega)
          have hs' : ∀ e, e < 5 → td_sd a1 a2 a3 a4 a5 a6 a7 a1 b2 c3 b4 c5 c6 b7 e := fun e he => td_sd_tr (hs e he) (g2 e he)
          obtain ⟨p3, p7, ma', mb', La', Lb', T1, T2, T3, Tw⟩ := td_j56 (q0 := q0) (q1 := q1) (q5 := q5) (q9 := q9) (a8 := a8) (a9 := a9) ha hb hA hB hs' hma hmb m3 m1 m2 (by omega)
          have e3 : td_jn x y = List.replicate k (some none) ++ td_jn (x.drop k) (y.drop k) := by
            rw [← td_jn_KD, ← ex, ← ey]
          have ox := congrArg td_ou ex
          have oy := congrArg td_in ey
          rw [td_ou_app, td_ou_K] at ox
          rw [td_in_app, td_in_D] at oy
          have lx := congrArg td_lt ex
          have ly := congrArg td_lt ey
          rw [td_lt_app, td_lt_K, List.nil_append] at lx
          rw [td_lt_app, td_lt_D, List.nil_append] at ly
          refine ⟨p3, nI La', q5, p7, nI Lb', q9, b2, c3, b4, c5, c6, b7, x.drop k, y.drop k, List.replicate k (some none) ++ W, ma', mb', ⟨La', Lb', T1, T2, rfl, rfl, td_CL_none hLA lx, td_CL_none hLB ly, g1, hs'⟩, T3, by omega, by rw [e3, td_fo_D], fun post J x3 hJ => ?_⟩
          unfold wX_join_94
          refine br_f k1 (br_f k2 ?_)
          unfold wpX_joinStep
          dsimp only
          refine td_both A3 B3 ?_
          rw [hk]
          exact br_t k3 (br_f (by rw [k4]; exact n21) (gw _ (Tw _ (td_j153 ha hb T1 T2 hs' hJ))))
      · obtain ⟨cs, ecs, ex⟩ := td_preA A4 k3 m1 A2
        obtain ⟨f, rfl, F1, F2, F3⟩ := hLA
        have F2' := F2
        have F3' := F3
        rw [congrArg td_lt ex] at F2' F3'
        obtain ⟨G1, G2, G3⟩ := td_CL_add F1 F2' F3'
        have ox := congrArg td_ou ex
        rw [td_ou_app, td_ou_AD] at ox
        rcases k4 with k4 | k4
        · have ey := td_preK B4 k4 m2 B2
          have e3 : td_jn x y = td_AD cs ++ td_jn (x.drop k) (y.drop k) := by
            rw [← td_jn_AK, ← ex, ecs, ← ey]
          have e4 : (td_jn x y).length = cs.length + (td_jn (x.drop k) (y.drop k)).length := by
            rw [e3, List.length_append]; simp [td_AD]
          have e5 : (td_lt (td_jn x y)).length = cs.length + (td_lt (td_jn (x.drop k) (y.drop k))).length := by
            rw [e3, td_lt_app, td_lt_AD, List.length_append]
          obtain ⟨c2, c3, c4, c5, c6, c7, g1, g2, gw⟩ := td_aLetters (q0 := q0) (q1 := q1) (q2 := (nI da)) (q3 := q3) (q4 := (nI La)) (q6 := (nI db)) (q7 := q7) (q8 := (nI Lb)) (q9 := q9) (a8 := a8) (a9 := a9) ha F1 G2 G1 (by omega) (by omega) hW hs
          subst ecs
          obtain ⟨p3, p7, ma', mb', La', Lb', T1, T2, T3, Tw⟩ := td_j56 (q0 := q0) (q1 := q1) (q5 := (nI f + nI cs.length)) (q9 := q9) (a8 := a8) (a9 := a9) ha hb hA hB g2 hma hmb m3 m1 m2 (by omega)
          have oy := congrArg td_in ey
          rw [td_in_app, td_in_K] at oy
          have ly := congrArg td_lt ey
          rw [td_lt_app, td_lt_K, List.nil_append] at ly
          refine ⟨p3, nI La', nI f + nI cs.length, p7, nI Lb', q9, c2, c3, c4, c5, c6, c7, x.drop cs.length, y.drop cs.length, td_fo W (td_AD cs), ma', mb', ⟨La', Lb', T1, T2, rfl, rfl, G3, td_CL_none hLB ly, g1, g2⟩, T3, by omega, by rw [e3, td_fo_app], fun post J x3 hJ => ?_⟩
          unfold wX_join_94
          refine br_f k1 (br_f k2 ?_)
          unfold wpX_joinStep
          dsimp only
          refine td_both A3 B3 ?_
          rw [hk]
          exact br_f (by rw [k3]; exact n31) (br_t k4 (gw _ (Tw _ (td_j153 ha hb T1 T2 g2 hJ))))
        · have ey := td_preD B4 k4 m2 B2
          have e3 : td_jn x y = td_jn (x.drop k) (y.drop k) := by
            rw [← td_jn_AD cs (x.drop k) (y.drop k), ← ex, ecs, ← ey]
          subst ecs
          obtain ⟨p3, p7, ma', mb', La', Lb', T1, T2, T3, Tw⟩ := td_j56 (q0 := q0) (q1 := q1) (q5 := (nI f + nI cs.length)) (q9 := q9) (a8 := a8) (a9 := a9) ha hb hA hB hs hma hmb m3 m1 m2 (by omega)
          have oy := congrArg td_in ey
          rw [td_in_app, td_in_D] at oy
          have ly := congrArg td_lt ey
          rw [td_lt_app, td_lt_D, List.nil_append] at ly
          refine ⟨p3, nI La', nI f + nI cs.length, p7, nI Lb', q9, b2, b3, b4, b5, b6, b7, x.drop cs.length, y.drop cs.length, W, ma', mb', ⟨La', Lb', T1, T2, rfl, rfl, G3, td_CL_none hLB ly, hW, hs⟩, T3, by omega, by rw [e3], fun post J x3 hJ => ?_⟩
          unfold wX_join_94
          refine br_f k1 (br_f k2 ?_)
          unfold wpX_joinStep
          dsimp only
          refine td_both A3 B3 ?_
          rw [hk]
          exact br_f (by rw [k3]; exact n31) (br_f (by rw [k4]; exact n21) (nm_e (Tw _ (td_j153 ha hb T1 T2 hs hJ))))
end
end
section
/-! Part 08: join's loop and join. -/
section
variable {q0 q1 q2 q3 q4 q5 q6 q7 q8 q9 : Int32} {a1 a2 a3 a4 a5 a6 a7 a8 a9 : Nat → Int32}
theorem td_jloop {da db : Nat} (ha : da < 4) (hb : db < 4) : ∀ (M r ma mb : Nat) (x y W : List td_Op) (q3 q4 q5 q7 q8 q9 : Int32) (b2 b3 b4 b5 b6 b7 : Nat → Int32), ma + mb ≤ M → r + M ≤ 200 → td_I2 a1 a2 a3 a4 a5 a6 a7 b2 b3 b4 b5 b6 b7 q3 q4 q5 q7 q8 q9 da db x y W ma mb → td_ou x = td_in y → (td_fo W (td_jn x y)).length ≤ 80 → (td_lt (td_fo W (td_jn x y))).length ≤ 40 →
    ∃ (p3 p4 p5 p7 p8 p9 : Int32) (c2 c3 c4 c5 c6 c7 : Nat → Int32), td_dl c2 c3 c4 c5 c6 c7 5 (td_fo W (td_jn x y)) ∧ (∀ e, e < 5 → td_sd a1 a2 a3 a4 a5 a6 a7 a1 c2 c3 c4 c5 c6 c7 e) ∧
      ∀ (post : Int32 → St1 → Prop) (x3 : Int32), wX_join_171 post x3 q0 q1 (nI da) p3 p4 p5 (nI db) p7 p8 p9 a1 c2 c3 c4 c5 c6 c7 a8 a9 → ∃ fu, wX_join_76 post x3 fu (td_hk x) (td_hk y) (nI r) q0 q1 (nI da) q3 q4 q5 (nI db) q7 q8 q9 a1 b2 b3 b4 b5 b6 b7 a8 a9 := by
  intro M
  induction M with
  | zero =>
    intro r ma mb x y W q3 q4 q5 q7 q8 q9 b2 b3 b4 b5 b6 b7 hM hr I hio hT hTl
    have I0 := I
    obtain ⟨La, Lb, hA, hB, _, _, _, _, hW, hs⟩ := I
    have hx : x = [] := Decidable.byContradiction (fun z => td_CR_ne hA z (by omega))
    have hy : y = [] := Decidable.byContradiction (fun z => td_CR_ne hB z (by omega))
    subst hx
    subst hy
    refine ⟨q3, q4, q5, q7, q8, q9, b2, b3, b4, b5, b6, b7, by rw [td_jn]; exact hW, hs, fun post x3 h => ⟨1, ?_⟩⟩
    exact br_f (nI_ge (b := 256) (by omega) (by omega)) (br_t rfl (br_t rfl h))
  | succ M ih =>
    intro r ma mb x y W q3 q4 q5 q7 q8 q9 b2 b3 b4 b5 b6 b7 hM hr I hio hT hTl
    have h256 : ¬ (256 : Int32) ≤ nI r := nI_ge (b := 256) (by omega) (by omega)
    by_cases he : x = [] ∧ y = []
    · obtain ⟨hx, hy⟩ := he
      obtain ⟨La, Lb, hA, hB, _, _, _, _, hW, hs⟩ := I
      subst hx
      subst hy
      refine ⟨q3, q4, q5, q7, q8, q9, b2, b3, b4, b5, b6, b7, by rw [td_jn]; exact hW, hs, fun post x3 h => ⟨1, ?_⟩⟩
      exact br_f h256 (br_t rfl (br_t rfl h))
    · have hne : x ≠ [] ∨ y ≠ [] := by
        by_cases hx : x = []
        · exact Or.inr (fun hy => he ⟨hx, hy⟩)
        · exact Or.inl hx
      obtain ⟨p3, p4, p5, p7, p8, p9, c2, c3, c4, c5, c6, c7, x', y', W', ma', mb', I', hm, hio', hT', hw⟩ := td_jstep (q0 := q0) (q1 := q1) (a8 := a8) (a9 := a9) (r := r) ha hb I hne hio hT hTl
      obtain ⟨s3, s4, s5, s7, s8, s9, d2, d3, d4, d5, d6, d7, k1, k2, kw⟩ := ih (r + 1) ma' mb' x' y' W' p3 p4 p5 p7 p8 p9 c2 c3 c4 c5 c6 c7 (by omega) (by omega) I' hio' (by rw [hT']; exact hT) (by rw [hT']; exact hTl)
      rw [hT'] at k1
      refine ⟨s3, s4, s5, s7, s8, s9, d2, d3, d4, d5, d6, d7, k1, k2, fun post x3 h => ?_⟩
      obtain ⟨fu, hfu⟩ := kw post x3 h
      have h94 := hw post (wX_join_76 post x3 fu) x3 hfu
      refine ⟨fu + 1, ?_⟩
      by_cases hx : x = []
      · have hy : y ≠ [] := fun hy => he ⟨hx, hy⟩
        exact br_f h256 (br_t (by rw [hx]; rfl) (br_f (td_hk0 hy) h94))
      · exact br_f h256 (br_f (td_hk0 hx) h94)
theorem td_CL0 {d : Nat} {W : List td_Op} (h : td_SL a1 a2 a3 a4 a5 a6 a7 d W) : td_CL a7 (nI d * 40) d W.reverse := by
  have c := (td_SL_cap h).2
  obtain ⟨_, ⟨_, _, _, _, h5⟩, _⟩ := h
  refine ⟨d * 40, td_m40 d, Nat.le_refl _, ?_, ?_⟩
  · rw [td_lt_rev, List.length_reverse]; omega
  · rw [td_lt_rev]; exact td_lv_sg _ h5
theorem td_sdw {m : Int32} {e : Nat} (he : e < 5) : td_sd a1 a2 a3 a4 a5 a6 a7 (upd a1 5 m) (upd a2 5 0) (upd a3 5 0) (upd a4 5 0) a5 a6 a7 e :=
  ⟨pk_un (by omega), pk_un (by omega), pk_un (by omega), pk_un (by omega), fun _ _ => ⟨rfl, rfl⟩, fun _ _ => rfl⟩
theorem td_join_bad {da db t : Nat} {Wa Wb : List td_Op} (ha : da < 4) (hb : db < 4) (ht : t < 4) (hA : td_SL a1 a2 a3 a4 a5 a6 a7 da Wa) (hB : td_SL a1 a2 a3 a4 a5 a6 a7 db Wb) (hne : td_ou Wa ≠ td_in Wb) {post : Int32 → St1 → Prop} (hp : post (-3) (q0, q1, q2, q3, q4, q5, q6, q7, q8, q9, a1, a2, a3, a4, a5, a6, a7, a8, a9)) : wpX_join post (q0, q1, q2, q3, q4, q5, q6, q7, q8, q9, a1, a2, a3, a4, a5, a6, a7, a8, a9) (nI da) (nI db) (nI t) := by
  unfold wpX_join
  dsimp only
  refine td_slot ha (br_f (by decide) (td_slot hb (br_f (by decide) (td_slot ht (br_f (by decide) ?_)))))
  rw [nI_clamp (show da < 2 ^ 31 by omega), nI_clamp (show db < 2 ^ 31 by omega)]
  refine ⟨vp_in_nI (by omega) (by omega), vp_in_nI (by omega) (by omega), br_f ?_ hp⟩
  rw [hA.2.1.1, hB.1]
  obtain ⟨_, _, _, _, h1⟩ := hA
  obtain ⟨_, _, _, h2, _⟩ := hB
  exact fun z => hne ((nI_eq (by omega) (by omega)).mp z)
theorem td_join {da db t : Nat} {Wa Wb : List td_Op} (ha : da < 4) (hb : db < 4) (ht : t < 4) (hA : td_SL a1 a2 a3 a4 a5 a6 a7 da Wa) (hB : td_SL a1 a2 a3 a4 a5 a6 a7 db Wb) (he : td_ou Wa = td_in Wb) :
    ∃ (p2 p3 p4 p5 p6 p7 p8 p9 : Int32) (c1 c2 c3 c4 c5 c6 c7 : Nat → Int32), td_SL c1 c2 c3 c4 c5 c6 c7 t (td_fo [] (td_jn Wa.reverse Wb.reverse)) ∧ (∀ e, e < 5 → e ≠ t → td_sd a1 a2 a3 a4 a5 a6 a7 c1 c2 c3 c4 c5 c6 c7 e) ∧
      ∀ post : Int32 → St1 → Prop, post (nI (td_ou (td_fo [] (td_jn Wa.reverse Wb.reverse)))) (q0, q1, p2, p3, p4, p5, p6, p7, p8, p9, c1, c2, c3, c4, c5, c6, c7, a8, a9) → wpX_join post (q0, q1, q2, q3, q4, q5, q6, q7, q8, q9, a1, a2, a3, a4, a5, a6, a7, a8, a9) (nI da) (nI db) (nI t) := by
  have hA' := td_SL_sd hA (td_sdw (m := a1 da) (show da < 5 by omega))
  have hB' := td_SL_sd hB (td_sdw (m := a1 da) (show db < 5 by omega))
  obtain ⟨La, Lb, A1, B1, ow⟩ := td_openBoth (q0 := q0) (q1 := q1) (q2 := q2) (q3 := q3) (q4 := q4) (q5 := q5) (q6 := q6) (q7 := q7) (q8 := q8) (q9 := q9) (a8 := a8) (a9 := a9) ha hb hA' hB'
  have cA := td_SL_cap hA
  have cB := td_SL_cap hB
  have hio : td_ou Wa.reverse = td_in Wb.reverse := by rw [td_ou_rev, td_in_rev]; exact he
  have cnt := td_n_jn _ Wa.reverse Wb.reverse (Nat.le_refl _) hio
  rw [td_in_rev, td_ou_rev] at cnt
  have ti : td_in (td_fo [] (td_jn Wa.reverse Wb.reverse)) = td_in Wa := by
    rw [td_in_fo, cnt.1]; exact Nat.zero_add _
  have to : td_ou (td_fo [] (td_jn Wa.reverse Wb.reverse)) = td_ou Wb := by
    rw [td_ou_fo, cnt.2]; exact Nat.zero_add _
  have tn : td_nf (td_fo [] (td_jn Wa.reverse Wb.reverse)) := td_nf_fo _ [] trivial
  have hA4 := hA.2.2.2
  have hB4 := hB.2.2.2
  have tl := td_lt_ou (td_fo [] (td_jn Wa.reverse Wb.reverse))
  have tt := td_len (td_fo [] (td_jn Wa.reverse Wb.reverse))
  obtain ⟨p3, p4, p5, p7, p8, p9, c2, c3, c4, c5, c6, c7, k1, k2, kw⟩ := td_jloop (q0 := q0) (q1 := q1) (a8 := a8) (a9 := a9) ha hb ((td_rr Wa).length + (td_rr Wb).length) 0 _ _ Wa.reverse Wb.reverse [] 0 (nI La) (nI da * 40) 0 (nI Lb) (nI db * 40) _ _ _ _ _ _ (Nat.le_refl _) (by omega)
    ⟨La, Lb, A1, B1, rfl, rfl, td_CL0 hA', td_CL0 hB', ⟨pk_us, pk_us, pk_us, trivial, trivial⟩, fun e he => td_sd_rfl _ _ _ _ _ _ _ e⟩ hio (by omega) (by omega)
  have cp := td_cap60 tn (by omega) (by omega)
  obtain ⟨d2, d3, d4, d5, d6, d7, l1, l2, lw⟩ := @td_copy q0 q1 (nI da) p3 p4 p5 (nI db) p7 p8 p9 (upd a1 5 (a1 da)) c2 c3 c4 c5 c6 c7 a8 a9 5 t _ (by omega) (by omega) (by omega) k1 (by omega) (by omega)
  refine ⟨nI da, p3, p4, p5, nI db, p7, p8, p9, _, d2, d3, d4, d5, d6, d7, ⟨?_, l1, tn, by omega, by omega⟩, fun e he het => td_sd_tr (td_sdw he) (td_sd_tr (k2 e he) (l2 e (by omega) het)), fun post hp => ?_⟩
  · rw [pk_us, pk_us, ti]; exact hA.1
  · unfold wpX_join
    dsimp only
    refine td_slot ha (br_f (by decide) (td_slot hb (br_f (by decide) (td_slot ht (br_f (by decide) ?_)))))
    rw [nI_clamp (show da < 2 ^ 31 by omega), nI_clamp (show db < 2 ^ 31 by omega)]
    refine ⟨vp_in_nI (by omega) (by omega), vp_in_nI (by omega) (by omega), br_t (by rw [hA.2.1.1, hB.1, he]) ⟨vp_in_nI (by omega) (by omega), td_wipe (d := 5) (by omega) _ (ow _ ?_)⟩⟩
    refine td_aKind ha A1 (td_sd_rfl _ _ _ _ _ _ _ da) (td_bKind hb B1 (td_sd_rfl _ _ _ _ _ _ _ db) (kw post (nI t) ?_))
    unfold wX_join_171
    refine lw _ ?_
    dsimp only
    rw [nI_clamp (show t < 2 ^ 31 by omega), l1.1]
    exact ⟨vp_in_nI (by omega) (by omega), hp⟩
end
end
section
/-! Part 09: carry. -/
section
variable {q0 q1 q2 q3 q4 q5 q6 q7 q8 q9 : Int32} {a1 a2 a3 a4 a5 a6 a7 a8 a9 : Nat → Int32}
variable {b1 b2 b3 b4 b5 b6 b7 : Nat → Int32}
theorem td_cr_A (f : Bool) (cs : List Int32) (x y : List td_Op) (h : td_hk y ≠ 3 ∨ f = true) : td_cr f (td_AD cs ++ x) y = td_AD cs ++ td_cr f x y := by
  induction cs with
  | nil => rfl
  | cons c cs ih =>
    show td_cr f (some (some c) :: (td_AD cs ++ x)) y = some (some c) :: (td_AD cs ++ td_cr f x y)
    rw [← ih]
    rcases h with h | h
    · rcases y with _ | ⟨_ | _ | e, y⟩
      · rw [td_cr]
      · rw [td_cr]
      · rw [td_cr]
      · exact absurd rfl h
    · subst h
      rw [td_cr_t]
theorem td_cr_B (f : Bool) (cs : List Int32) (x y : List td_Op) (h : td_hk x ≠ 3 ∨ f = false) : td_cr f x (td_AD cs ++ y) = List.replicate cs.length none ++ td_cr f x y := by
  induction cs with
  | nil => rfl
  | cons c cs ih =>
    show td_cr f x (some (some c) :: (td_AD cs ++ y)) = List.replicate (cs.length + 1) none ++ td_cr f x y
    rw [List.replicate_succ, List.cons_append, ← ih]
    rcases h with h | h
    · rcases x with _ | ⟨_ | _ | e, x⟩
      · rw [td_cr]
      · rw [td_cr]
      · rw [td_cr]
      · exact absurd rfl h
    · subst h
      rw [td_cr_f]
theorem td_cr_KK (f : Bool) (n : Nat) (x y : List td_Op) : td_cr f (List.replicate n none ++ x) (List.replicate n none ++ y) = List.replicate n none ++ td_cr f x y := by
  induction n with
  | zero => rfl
  | succ n ih => rw [List.replicate_succ, List.cons_append, List.cons_append, td_cr, ih, List.cons_append]
theorem td_cr_DK (f : Bool) (n : Nat) (x y : List td_Op) : td_cr f (List.replicate n (some none) ++ x) (List.replicate n none ++ y) = List.replicate n (some none) ++ td_cr f x y := by
  induction n with
  | zero => rfl
  | succ n ih => rw [List.replicate_succ, List.replicate_succ, List.cons_append, List.cons_append, td_cr, ih, List.cons_append]
theorem td_cr_KD (f : Bool) (n : Nat) (x y : List td_Op) : td_cr f (List.replicate n none ++ x) (List.replicate n (some none) ++ y) = td_cr f x y := by
  induction n with
  | zero => rfl
  | succ n ih => rw [List.replicate_succ, List.replicate_succ, List.cons_append, List.cons_append, td_cr, ih]
theorem td_cr_DD (f : Bool) (n : Nat) (x y : List td_Op) : td_cr f (List.replicate n (some none) ++ x) (List.replicate n (some none) ++ y) = td_cr f x y := by
  induction n with
  | zero => rfl
  | succ n ih => rw [List.replicate_succ, List.cons_append, List.cons_append, td_cr, ih]
/-- as td_I2, but b's letters aren't read -/
def td_I3 (a1 a2 a3 a4 a5 a6 a7 b2 b3 b4 b5 b6 b7 : Nat → Int32) (q3 q4 q5 q7 q8 : Int32) (da db : Nat) (x y W : List td_Op) (ma mb : Nat) : Prop :=
  ∃ La Lb, td_CR a3 a5 a6 q3 da x ma La ∧ td_CR a3 a5 a6 q7 db y mb Lb ∧ q4 = nI La ∧ q8 = nI Lb ∧ td_CL a7 q5 da x ∧ td_dl b2 b3 b4 b5 b6 b7 5 W ∧ (∀ e, e < 5 → td_sd a1 a2 a3 a4 a5 a6 a7 a1 b2 b3 b4 b5 b6 b7 e)
theorem td_cstep {da db ma mb r : Nat} {x y W : List td_Op} {f : Bool} {x3 : Int32} (hf : f = false ↔ x3 = 0) (ha : da < 4) (hb : db < 4) (I : td_I3 a1 a2 a3 a4 a5 a6 a7 b2 b3 b4 b5 b6 b7 q3 q4 q5 q7 q8 da db x y W ma mb) (hne : x ≠ [] ∨ y ≠ []) (hio : td_in x = td_in y) (hT : (td_fo W (td_cr f x y)).length ≤ 80) (hTl : (td_lt (td_fo W (td_cr f x y))).length ≤ 40) :
    ∃ (p3 p4 p5 p7 p8 : Int32) (c2 c3 c4 c5 c6 c7 : Nat → Int32) (x' y' W' : List td_Op) (ma' mb' : Nat), td_I3 a1 a2 a3 a4 a5 a6 a7 c2 c3 c4 c5 c6 c7 p3 p4 p5 p7 p8 da db x' y' W' ma' mb' ∧ ma' + mb' < ma + mb ∧ td_in x' = td_in y' ∧ td_fo W' (td_cr f x' y') = td_fo W (td_cr f x y) ∧
      ∀ (post : Int32 → St1 → Prop) (J : Int32 → Int32 → Int32 → Int32 → Int32 → Int32 → Int32 → Int32 → Int32 → Int32 → Int32 → Int32 → Int32 → (Nat → Int32) → (Nat → Int32) → (Nat → Int32) → (Nat → Int32) → (Nat → Int32) → (Nat → Int32) → (Nat → Int32) → (Nat → Int32) → (Nat → Int32) → Prop) (x4 : Int32),
        J (td_hk x') (td_hk y') (nI (r + 1)) q0 q1 (nI da) p3 p4 p5 (nI db) p7 p8 q9 a1 c2 c3 c4 c5 c6 c7 a8 a9 → wX_carry_95 post J x3 x4 (td_hk x) (td_hk y) (nI r) q0 q1 (nI da) q3 q4 q5 (nI db) q7 q8 q9 a1 b2 b3 b4 b5 b6 b7 a8 a9 := by
  obtain ⟨La, Lb, hA, hB, rfl, rfl, hLA, hW, hs⟩ := I
  have lW := td_fo_len W (td_cr f x y)
  have lL := td_la_fo (td_cr f x y) W
  have rW := td_rr_le W
  have n03 : ¬ (0 : Int32) = 3 := by decide
  by_cases k1 : td_hk x = 3 ∧ (td_hk y ≠ 3 ∨ f = true)
  · obtain ⟨k1, k2⟩ := k1
    have hx : x ≠ [] := fun z => by rw [z] at k1; exact n03 k1
    obtain ⟨L1, L2, L3, L4⟩ := td_CR_pre hA hx
    obtain ⟨cs, ecs, ex⟩ := td_preA L4 k1 (Nat.le_refl La) L2
    obtain ⟨ff, rfl, F1, F2, F3⟩ := hLA
    have F2' := F2
    have F3' := F3
    rw [congrArg td_lt ex] at F2' F3'
    obtain ⟨G1, G2, G3⟩ := td_CL_add F1 F2' F3'
    have e3 : td_cr f x y = td_AD cs ++ td_cr f (x.drop La) y := by
      rw [← td_cr_A f cs _ _ k2, ← ex]
    have e4 : (td_cr f x y).length = cs.length + (td_cr f (x.drop La) y).length := by
      rw [e3, List.length_append]; simp [td_AD]
    have e5 : (td_lt (td_cr f x y)).length = cs.length + (td_lt (td_cr f (x.drop La) y)).length := by
      rw [e3, td_lt_app, td_lt_AD, List.length_append]
    obtain ⟨c2, c3, c4, c5, c6, c7, g1, g2, gw⟩ := td_aLetters (q0 := q0) (q1 := q1) (q2 := (nI da)) (q3 := q3) (q4 := (nI La)) (q6 := (nI db)) (q7 := q7) (q8 := (nI Lb)) (q9 := q9) (a8 := a8) (a9 := a9) ha F1 G2 G1 (by omega) (by omega) hW hs
    subst ecs
    obtain ⟨p3, ma', La', A1, A2, A3, Aw⟩ := td_aTake (q0 := q0) (q1 := q1) (q5 := (nI ff + nI cs.length)) (q6 := (nI db)) (q7 := q7) (q8 := (nI Lb)) (q9 := q9) (a8 := a8) (a9 := a9) ha hA (g2 da (by omega)) (td_CR_ne hA hx) L1 (Nat.le_refl _)
    have oy := congrArg td_in ex
    rw [td_in_app, td_in_AD, Nat.zero_add] at oy
    refine ⟨p3, nI La', nI ff + nI cs.length, q7, nI Lb, c2, c3, c4, c5, c6, c7, x.drop cs.length, y, td_fo W (td_AD cs), ma', mb, ⟨La', Lb, A1, hB, rfl, rfl, G3, g1, g2⟩, ?_, ?_, ?_, fun post J x4 hJ => ?_⟩
    · have := A3 rfl; omega
    · omega
    · rw [e3, td_fo_app]
    · have h111 : wX_carry_111 post J x3 x4 (nI r) q0 q1 (nI da) q3 (nI cs.length) (nI ff) (nI db) q7 (nI Lb) q9 a1 b2 b3 b4 b5 b6 b7 a8 a9 := by
        unfold wX_carry_111
        exact gw _ (Aw _ (td_c164 ha hb A1 hB g2 hJ))
      unfold wX_carry_95
      refine br_t k1 ?_
      rcases k2 with k2 | k2
      · exact br_f k2 h111
      · have hx3 : ¬ x3 = 0 := fun z => by rw [hf.mpr z] at k2; exact absurd k2 (by decide)
        exact br_c (fun _ => br_f hx3 h111) (fun _ => h111)
  · have to130 : ∀ (post : Int32 → St1 → Prop) (J : Int32 → Int32 → Int32 → Int32 → Int32 → Int32 → Int32 → Int32 → Int32 → Int32 → Int32 → Int32 → Int32 → (Nat → Int32) → (Nat → Int32) → (Nat → Int32) → (Nat → Int32) → (Nat → Int32) → (Nat → Int32) → (Nat → Int32) → (Nat → Int32) → (Nat → Int32) → Prop) (x4 : Int32),
        wX_carry_130 post J x3 x4 (td_hk x) (td_hk y) (nI r) q0 q1 (nI da) q3 (nI La) q5 (nI db) q7 (nI Lb) q9 a1 b2 b3 b4 b5 b6 b7 a8 a9 → wX_carry_95 post J x3 x4 (td_hk x) (td_hk y) (nI r) q0 q1 (nI da) q3 (nI La) q5 (nI db) q7 (nI Lb) q9 a1 b2 b3 b4 b5 b6 b7 a8 a9 := by
      intro post J x4 h
      unfold wX_carry_95
      by_cases k2 : td_hk x = 3
      · have k3 : td_hk y = 3 := Decidable.byContradiction (fun z => k1 ⟨k2, Or.inl z⟩)
        have k4 : f = false := by
          cases f with
          | false => rfl
          | true => exact absurd ⟨k2, Or.inr rfl⟩ k1
        exact br_t k2 (br_t k3 (br_t (hf.mp k4) h))
      · exact br_f k2 h
    have k1' : td_hk x ≠ 3 ∨ f = false := by
      by_cases k2 : td_hk x = 3
      · right
        cases f with
        | false => rfl
        | true => exact absurd ⟨k2, Or.inr rfl⟩ k1
      · exact Or.inl k2
    by_cases k2 : td_hk y = 3
    · have hy : y ≠ [] := fun z => by rw [z] at k2; exact n03 k2
      obtain ⟨L1, L2, L3, L4⟩ := td_CR_pre hB hy
      obtain ⟨cs, ecs, ey⟩ := td_preA L4 k2 (Nat.le_refl Lb) L2
      have e3 : td_cr f x y = List.replicate cs.length none ++ td_cr f x (y.drop Lb) := by
        rw [← td_cr_B f cs _ _ k1', ← ey]
      obtain ⟨c2, c3, c5, c6, g1, g2, gw⟩ := @td_putKeep q0 q1 (nI da) q3 (nI La) q5 (nI db) q7 (nI Lb) q9 a1 b2 b3 b4 b5 b6 b7 a8 a9 5 W (by omega) hW (by omega) Lb (by omega)
      have hs' : ∀ e, e < 5 → td_sd a1 a2 a3 a4 a5 a6 a7 a1 c2 c3 b4 c5 c6 b7 e := fun e he => td_sd_tr (hs e he) (g2 e he)
      obtain ⟨p7, mb', Lb', B1, B2, B3, Bw⟩ := td_bTake (q0 := q0) (q1 := q1) (q2 := (nI da)) (q3 := q3) (q4 := (nI La)) (q5 := q5) (q9 := q9) (a8 := a8) (a9 := a9) hb hB (hs' db (by omega)) (td_CR_ne hB hy) L1 (Nat.le_refl _)
      have oy := congrArg td_in ey
      rw [td_in_app, td_in_AD, Nat.zero_add] at oy
      rw [ecs] at e3
      refine ⟨q3, nI La, q5, p7, nI Lb', c2, c3, b4, c5, c6, b7, x, y.drop Lb, List.replicate Lb none ++ W, ma, mb', ⟨La, Lb', hA, B1, rfl, rfl, hLA, g1, hs'⟩, ?_, ?_, ?_, fun post J x4 hJ => to130 _ _ _ ?_⟩
      · have := B3 rfl; omega
      · omega
      · rw [e3, td_fo_K]
      · unfold wX_carry_130
        exact br_t k2 (gw _ (Bw _ (td_c164 ha hb hA B1 hs' hJ)))
    · have k1x : td_hk x ≠ 3 := fun z => k1 ⟨z, Or.inl k2⟩
      have hx : x ≠ [] := by
        intro z
        subst z
        rcases y with _ | ⟨_ | _ | c, y⟩
        · rcases hne with h | h <;> exact h rfl
        · simp only [td_in] at hio; omega
        · simp only [td_in] at hio; omega
        · exact k2 rfl
      have hy : y ≠ [] := by
        intro z
        subst z
        rcases x with _ | ⟨_ | _ | c, x⟩
        · exact hx rfl
        · simp only [td_in] at hio; omega
        · simp only [td_in] at hio; omega
        · exact k1x rfl
      obtain ⟨A1, A2, A3, A4⟩ := td_CR_pre hA hx
      obtain ⟨B1, B2, B3, B4⟩ := td_CR_pre hB hy
      have m1 : min La Lb ≤ La := Nat.min_le_left _ _
      have m2 : min La Lb ≤ Lb := Nat.min_le_right _ _
      have m3 : 1 ≤ min La Lb := Nat.le_min.mpr ⟨A1, B1⟩
      have m4 : min La Lb = La ∨ min La Lb = Lb := by omega
      generalize hk : min La Lb = k at m1 m2 m3 m4
      have hma := td_CR_ne hA hx
      have hmb := td_CR_ne hB hy
      have k3 : td_hk x = 1 ∨ td_hk x = 2 := by
        rcases td_hk_cases hx with z | z | z
        · exact Or.inl z
        · exact Or.inr z
        · exact absurd z k1x
      have k4 : td_hk y = 1 ∨ td_hk y = 2 := by
        rcases td_hk_cases hy with z | z | z
        · exact Or.inl z
        · exact Or.inr z
        · exact absurd z k2
      have n21 : ¬ (2 : Int32) = 1 := by decide
      rcases k4 with k4 | k4
      · have ey := td_preK B4 k4 m2 B2
        have oy := congrArg td_in ey
        rw [td_in_app, td_in_K] at oy
        rcases k3 with k3 | k3
        · have ex := td_preK A4 k3 m1 A2
          obtain ⟨c2, c3, c5, c6, g1, g2, gw⟩ := @td_putKeep q0 q1 (nI da) q3 (nI La) q5 (nI db) q7 (nI Lb) q9 a1 b2 b3 b4 b5 b6 b7 a8 a9 5 W (by omega) hW (by omega) k (by omega)
          have hs' : ∀ e, e < 5 → td_sd a1 a2 a3 a4 a5 a6 a7 a1 c2 c3 b4 c5 c6 b7 e := fun e he => td_sd_tr (hs e he) (g2 e he)
          obtain ⟨p3, p7, ma', mb', La', Lb', T1, T2, T3, Tw⟩ := td_c30 (q0 := q0) (q1 := q1) (q5 := q5) (q9 := q9) (a8 := a8) (a9 := a9) ha hb hA hB hs' hma hmb m3 m1 m2 (by omega)
          have e3 : td_cr f x y = List.replicate k none ++ td_cr f (x.drop k) (y.drop k) := by
            rw [← td_cr_KK, ← ex, ← ey]
          have ox := congrArg td_in ex
          rw [td_in_app, td_in_K] at ox
          have lx := congrArg td_lt ex
          rw [td_lt_app, td_lt_K, List.nil_append] at lx
          refine ⟨p3, nI La', q5, p7, nI Lb', c2, c3, b4, c5, c6, b7, x.drop k, y.drop k, List.replicate k none ++ W, ma', mb', ⟨La', Lb', T1, T2, rfl, rfl, td_CL_none hLA lx, g1, hs'⟩, T3, by omega, by rw [e3, td_fo_K], fun post J x4 hJ => to130 _ _ _ ?_⟩
          unfold wX_carry_130
          refine br_f k2 ?_
          unfold wpX_carryStep
          dsimp only
          refine td_both A3 B3 ?_
          rw [hk]
          exact br_t k4 (br_t k3 (gw _ (Tw _ (td_c164 ha hb T1 T2 hs' hJ))))
        · have ex := td_preD A4 k3 m1 A2
          obtain ⟨c3, c5, c6, g1, g2, gw⟩ := @td_putDrop q0 q1 (nI da) q3 (nI La) q5 (nI db) q7 (nI Lb) q9 a1 b2 b3 b4 b5 b6 b7 a8 a9 5 W (by omega) hW (by omega) k (by omega)
          have hs' : ∀ e, e < 5 → td_sd a1 a2 a3 a4 a5 a6 a7 a1 b2 c3 b4 c5 c6 b7 e := fun e he => td_sd_tr (hs e he) (g2 e he)
          obtain ⟨p3, p7, ma', mb', La', Lb', T1, T2, T3, Tw⟩ := td_c30 (q0 := q0) (q1 := q1) (q5 := q5) (q9 := q9) (a8 := a8) (a9 := a9) ha hb hA hB hs' hma hmb m3 m1 m2 (by omega)
          have e3 : td_cr f x y = List.replicate k (some none) ++ td_cr f (x.drop k) (y.drop k) := by
            rw [← td_cr_DK, ← ex, ← ey]
          have ox := congrArg td_in ex
          rw [td_in_app, td_in_D] at ox
          have lx := congrArg td_lt ex
          rw [td_lt_app, td_lt_D, List.nil_append] at lx
          refine ⟨p3, nI La', q5, p7, nI Lb', b2, c3, b4, c5, c6, b7, x.drop k, y.drop k, List.replicate k (some none) ++ W, ma', mb', ⟨La', Lb', T1, T2, rfl, rfl, td_CL_none hLA lx, g1, hs'⟩, T3, by omega, by rw [e3, td_fo_D], fun post J x4 hJ => to130 _ _ _ ?_⟩
          unfold wX_carry_130
          refine br_f k2 ?_
          unfold wpX_carryStep
          dsimp only
          refine td_both A3 B3 ?_
          rw [hk]
          exact br_t k4 (br_f (by rw [k3]; exact n21) (gw _ (Tw _ (td_c164 ha hb T1 T2 hs' hJ))))
      · have ey := td_preD B4 k4 m2 B2
        have oy := congrArg td_in ey
        rw [td_in_app, td_in_D] at oy
        obtain ⟨p3, p7, ma', mb', La', Lb', T1, T2, T3, Tw⟩ := td_c30 (q0 := q0) (q1 := q1) (q5 := q5) (q9 := q9) (a8 := a8) (a9 := a9) ha hb hA hB hs hma hmb m3 m1 m2 (by omega)
        have e3 : td_cr f x y = td_cr f (x.drop k) (y.drop k) ∧ td_in x = k + td_in (x.drop k) ∧ td_lt x = td_lt (x.drop k) := by
          rcases k3 with k3 | k3
          · have ex := td_preK A4 k3 m1 A2
            have ox := congrArg td_in ex
            rw [td_in_app, td_in_K] at ox
            have lx := congrArg td_lt ex
            rw [td_lt_app, td_lt_K, List.nil_append] at lx
            refine ⟨?_, ox, lx⟩
            rw [← td_cr_KD f k (x.drop k) (y.drop k), ← ex, ← ey]
          · have ex := td_preD A4 k3 m1 A2
            have ox := congrArg td_in ex
            rw [td_in_app, td_in_D] at ox
            have lx := congrArg td_lt ex
            rw [td_lt_app, td_lt_D, List.nil_append] at lx
            refine ⟨?_, ox, lx⟩
            rw [← td_cr_DD f k (x.drop k) (y.drop k), ← ex, ← ey]
        obtain ⟨e3, ox, lx⟩ := e3
        refine ⟨p3, nI La', q5, p7, nI Lb', b2, b3, b4, b5, b6, b7, x.drop k, y.drop k, W, ma', mb', ⟨La', Lb', T1, T2, rfl, rfl, td_CL_none hLA lx, hW, hs⟩, T3, by omega, by rw [e3], fun post J x4 hJ => to130 _ _ _ ?_⟩
        unfold wX_carry_130
        refine br_f k2 ?_
        unfold wpX_carryStep
        dsimp only
        refine td_both A3 B3 ?_
        rw [hk]
        exact br_f (by rw [k4]; exact n21) (Tw _ (td_c164 ha hb T1 T2 hs hJ))
theorem td_cloop {da db : Nat} {f : Bool} {x3 : Int32} (hf : f = false ↔ x3 = 0) (ha : da < 4) (hb : db < 4) : ∀ (M r ma mb : Nat) (x y W : List td_Op) (q3 q4 q5 q7 q8 : Int32) (b2 b3 b4 b5 b6 b7 : Nat → Int32), ma + mb ≤ M → r + M ≤ 200 → td_I3 a1 a2 a3 a4 a5 a6 a7 b2 b3 b4 b5 b6 b7 q3 q4 q5 q7 q8 da db x y W ma mb → td_in x = td_in y → (td_fo W (td_cr f x y)).length ≤ 80 → (td_lt (td_fo W (td_cr f x y))).length ≤ 40 →
    ∃ (p3 p4 p5 p7 p8 : Int32) (c2 c3 c4 c5 c6 c7 : Nat → Int32), td_dl c2 c3 c4 c5 c6 c7 5 (td_fo W (td_cr f x y)) ∧ (∀ e, e < 5 → td_sd a1 a2 a3 a4 a5 a6 a7 a1 c2 c3 c4 c5 c6 c7 e) ∧
      ∀ (post : Int32 → St1 → Prop) (x4 : Int32), wX_carry_182 post x4 q0 q1 (nI da) p3 p4 p5 (nI db) p7 p8 q9 a1 c2 c3 c4 c5 c6 c7 a8 a9 → ∃ fu, wX_carry_77 post x3 x4 fu (td_hk x) (td_hk y) (nI r) q0 q1 (nI da) q3 q4 q5 (nI db) q7 q8 q9 a1 b2 b3 b4 b5 b6 b7 a8 a9 := by
  intro M
  induction M with
  | zero =>
    intro r ma mb x y W q3 q4 q5 q7 q8 b2 b3 b4 b5 b6 b7 hM hr I hio hT hTl
    obtain ⟨La, Lb, hA, hB, _, _, _, hW, hs⟩ := I
    have hx : x = [] := Decidable.byContradiction (fun z => td_CR_ne hA z (by omega))
    have hy : y = [] := Decidable.byContradiction (fun z => td_CR_ne hB z (by omega))
    subst hx
    subst hy
    refine ⟨q3, q4, q5, q7, q8, b2, b3, b4, b5, b6, b7, by rw [td_cr]; exact hW, hs, fun post x3 h => ⟨1, ?_⟩⟩
    exact br_f (nI_ge (b := 256) (by omega) (by omega)) (br_t rfl (br_t rfl h))
  | succ M ih =>
    intro r ma mb x y W q3 q4 q5 q7 q8 b2 b3 b4 b5 b6 b7 hM hr I hio hT hTl
    have h256 : ¬ (256 : Int32) ≤ nI r := nI_ge (b := 256) (by omega) (by omega)
    by_cases he : x = [] ∧ y = []
    · obtain ⟨hx, hy⟩ := he
      obtain ⟨La, Lb, hA, hB, _, _, _, hW, hs⟩ := I
      subst hx
      subst hy
      refine ⟨q3, q4, q5, q7, q8, b2, b3, b4, b5, b6, b7, by rw [td_cr]; exact hW, hs, fun post x3 h => ⟨1, ?_⟩⟩
      exact br_f h256 (br_t rfl (br_t rfl h))
    · have hne : x ≠ [] ∨ y ≠ [] := by
        by_cases hx : x = []
        · exact Or.inr (fun hy => he ⟨hx, hy⟩)
        · exact Or.inl hx
      obtain ⟨p3, p4, p5, p7, p8, c2, c3, c4, c5, c6, c7, x', y', W', ma', mb', I', hm, hio', hT', hw⟩ := td_cstep (q0 := q0) (q1 := q1) (q9 := q9) (a8 := a8) (a9 := a9) (r := r) hf ha hb I hne hio hT hTl
      obtain ⟨s3, s4, s5, s7, s8, d2, d3, d4, d5, d6, d7, k1, k2, kw⟩ := ih (r + 1) ma' mb' x' y' W' p3 p4 p5 p7 p8 c2 c3 c4 c5 c6 c7 (by omega) (by omega) I' hio' (by rw [hT']; exact hT) (by rw [hT']; exact hTl)
      rw [hT'] at k1
      refine ⟨s3, s4, s5, s7, s8, d2, d3, d4, d5, d6, d7, k1, k2, fun post x4 h => ?_⟩
      obtain ⟨fu, hfu⟩ := kw post x4 h
      have h95 := hw post (wX_carry_77 post x3 x4 fu) x4 hfu
      refine ⟨fu + 1, ?_⟩
      by_cases hx : x = []
      · have hy : y ≠ [] := fun hy => he ⟨hx, hy⟩
        exact br_f h256 (br_t (by rw [hx]; rfl) (br_f (td_hk0 hy) h95))
      · exact br_f h256 (br_f (td_hk0 hx) h95)
theorem td_carry_bad {da db t : Nat} {Wa Wb : List td_Op} {p : Int32} (ha : da < 4) (hb : db < 4) (ht : t < 4) (hA : td_SL a1 a2 a3 a4 a5 a6 a7 da Wa) (hB : td_SL a1 a2 a3 a4 a5 a6 a7 db Wb) (hne : td_in Wa ≠ td_in Wb) {post : Int32 → St1 → Prop} (hp : post (-3) (q0, q1, q2, q3, q4, q5, q6, q7, q8, q9, a1, a2, a3, a4, a5, a6, a7, a8, a9)) : wpX_carry post (q0, q1, q2, q3, q4, q5, q6, q7, q8, q9, a1, a2, a3, a4, a5, a6, a7, a8, a9) (nI da) (nI db) p (nI t) := by
  unfold wpX_carry
  dsimp only
  refine td_slot ha (br_f (by decide) (td_slot hb (br_f (by decide) (td_slot ht (br_f (by decide) ?_)))))
  rw [nI_clamp (show da < 2 ^ 31 by omega), nI_clamp (show db < 2 ^ 31 by omega)]
  refine ⟨vp_in_nI (by omega) (by omega), vp_in_nI (by omega) (by omega), br_f ?_ hp⟩
  rw [hA.1, hB.1]
  obtain ⟨_, _, _, h1, _⟩ := hA
  obtain ⟨_, _, _, h2, _⟩ := hB
  exact fun z => hne ((nI_eq (by omega) (by omega)).mp z)
theorem td_carry0 {da db t : Nat} {Wa Wb : List td_Op} {f : Bool} {p : Int32} (hf : f = false ↔ p = 0) (ha : da < 4) (hb : db < 4) (ht : t < 4) (hA : td_SL a1 a2 a3 a4 a5 a6 a7 da Wa) (hB : td_SL a1 a2 a3 a4 a5 a6 a7 db Wb) (he : td_in Wa = td_in Wb) :
    ∃ (p2 p3 p4 p5 p6 p7 p8 p9 : Int32) (c2 c3 c4 c5 c6 c7 : Nat → Int32), td_dl c2 c3 c4 c5 c6 c7 5 (td_fo [] (td_cr f Wa.reverse Wb.reverse)) ∧ (∀ e, e < 5 → td_sd a1 a2 a3 a4 a5 a6 a7 (upd a1 5 (a2 db)) c2 c3 c4 c5 c6 c7 e) ∧
      ∀ post : Int32 → St1 → Prop, wX_carry_182 post (nI t) q0 q1 p2 p3 p4 p5 p6 p7 p8 p9 (upd a1 5 (a2 db)) c2 c3 c4 c5 c6 c7 a8 a9 → wpX_carry post (q0, q1, q2, q3, q4, q5, q6, q7, q8, q9, a1, a2, a3, a4, a5, a6, a7, a8, a9) (nI da) (nI db) p (nI t) := by
  have hA' := td_SL_sd hA (td_sdw (m := a2 db) (show da < 5 by omega))
  have hB' := td_SL_sd hB (td_sdw (m := a2 db) (show db < 5 by omega))
  obtain ⟨La, Lb, A1, B1, ow⟩ := td_openBoth (q0 := q0) (q1 := q1) (q2 := q2) (q3 := q3) (q4 := q4) (q5 := q5) (q6 := q6) (q7 := q7) (q8 := q8) (q9 := q9) (a8 := a8) (a9 := a9) ha hb hA' hB'
  have cA := td_SL_cap hA
  have cB := td_SL_cap hB
  have hio : td_in Wa.reverse = td_in Wb.reverse := by rw [td_in_rev, td_in_rev]; exact he
  have cnt := td_n_cr f _ Wa.reverse Wb.reverse (Nat.le_refl _) hio
  rw [td_ou_rev, td_lt_rev, List.length_reverse] at cnt
  have ti : td_in (td_fo [] (td_cr f Wa.reverse Wb.reverse)) = td_ou Wb := by
    rw [td_in_fo, cnt.1]; exact Nat.zero_add _
  have tl : (td_lt (td_fo [] (td_cr f Wa.reverse Wb.reverse))).length = (td_lt Wa).length := by
    rw [td_la_fo, cnt.2]; exact Nat.zero_add _
  have hA4 := hA.2.2.2
  have hB4 := hB.2.2.2
  have tt := td_len (td_fo [] (td_cr f Wa.reverse Wb.reverse))
  obtain ⟨p3, p4, p5, p7, p8, c2, c3, c4, c5, c6, c7, k1, k2, kw⟩ := td_cloop (q0 := q0) (q1 := q1) (q9 := nI db * 40) (a8 := a8) (a9 := a9) hf ha hb ((td_rr Wa).length + (td_rr Wb).length) 0 _ _ Wa.reverse Wb.reverse [] 0 (nI La) (nI da * 40) 0 (nI Lb) _ _ _ _ _ _ (Nat.le_refl _) (by omega)
    ⟨La, Lb, A1, B1, rfl, rfl, td_CL0 hA', ⟨pk_us, pk_us, pk_us, trivial, trivial⟩, fun e he => td_sd_rfl _ _ _ _ _ _ _ e⟩ hio (by omega) (by omega)
  refine ⟨nI da, p3, p4, p5, nI db, p7, p8, nI db * 40, c2, c3, c4, c5, c6, c7, k1, fun e he => td_sd_tr (td_sdw he) (k2 e he), fun post hp => ?_⟩
  unfold wpX_carry
  dsimp only
  refine td_slot ha (br_f (by decide) (td_slot hb (br_f (by decide) (td_slot ht (br_f (by decide) ?_)))))
  rw [nI_clamp (show da < 2 ^ 31 by omega), nI_clamp (show db < 2 ^ 31 by omega)]
  refine ⟨vp_in_nI (by omega) (by omega), vp_in_nI (by omega) (by omega), br_t (by rw [hA.1, hB.1, he]) ⟨vp_in_nI (by omega) (by omega), td_wipe (d := 5) (by omega) _ (ow _ ?_)⟩⟩
  exact td_aKind ha A1 (td_sd_rfl _ _ _ _ _ _ _ da) (td_bKind hb B1 (td_sd_rfl _ _ _ _ _ _ _ db) (kw post (nI t) hp))
theorem td_cr_n {f : Bool} {Wa Wb : List td_Op} (he : td_in Wa = td_in Wb) : td_in (td_fo [] (td_cr f Wa.reverse Wb.reverse)) = td_ou Wb ∧ (td_lt (td_fo [] (td_cr f Wa.reverse Wb.reverse))).length = (td_lt Wa).length := by
  have cnt := td_n_cr f _ Wa.reverse Wb.reverse (Nat.le_refl _) (by rw [td_in_rev, td_in_rev]; exact he)
  rw [td_ou_rev, td_lt_rev, List.length_reverse] at cnt
  refine ⟨?_, ?_⟩
  · rw [td_in_fo, cnt.1]; exact Nat.zero_add _
  · rw [td_la_fo, cnt.2]; exact Nat.zero_add _
theorem td_dlou {W : List td_Op} (h : td_dl a2 a3 a4 a5 a6 a7 5 W) (hl : W.length ≤ 80) : td_ou W ≤ 80 := by
  have : td_ou W ≤ W.length := by
    clear h hl
    induction W with
    | nil => exact Nat.le_refl 0
    | cons o W ih => rcases o with _ | _ | c <;> simp only [td_ou, List.length_cons] <;> omega
  omega
theorem td_carry {da db t : Nat} {Wa Wb : List td_Op} {f : Bool} {p : Int32} (hf : f = false ↔ p = 0) (ha : da < 4) (hb : db < 4) (ht : t < 4) (hA : td_SL a1 a2 a3 a4 a5 a6 a7 da Wa) (hB : td_SL a1 a2 a3 a4 a5 a6 a7 db Wb) (he : td_in Wa = td_in Wb) (ho : td_ou (td_fo [] (td_cr f Wa.reverse Wb.reverse)) ≤ 40) :
    ∃ (p2 p3 p4 p5 p6 p7 p8 p9 : Int32) (c1 c2 c3 c4 c5 c6 c7 : Nat → Int32), td_SL c1 c2 c3 c4 c5 c6 c7 t (td_fo [] (td_cr f Wa.reverse Wb.reverse)) ∧ (∀ e, e < 5 → e ≠ t → td_sd a1 a2 a3 a4 a5 a6 a7 c1 c2 c3 c4 c5 c6 c7 e) ∧
      ∀ post : Int32 → St1 → Prop, post (nI (td_ou (td_fo [] (td_cr f Wa.reverse Wb.reverse)))) (q0, q1, p2, p3, p4, p5, p6, p7, p8, p9, c1, c2, c3, c4, c5, c6, c7, a8, a9) → wpX_carry post (q0, q1, q2, q3, q4, q5, q6, q7, q8, q9, a1, a2, a3, a4, a5, a6, a7, a8, a9) (nI da) (nI db) p (nI t) := by
  obtain ⟨p2, p3, p4, p5, p6, p7, p8, p9, c2, c3, c4, c5, c6, c7, k1, k2, kw⟩ := td_carry0 (q0 := q0) (q1 := q1) (q2 := q2) (q3 := q3) (q4 := q4) (q5 := q5) (q6 := q6) (q7 := q7) (q8 := q8) (q9 := q9) (a8 := a8) (a9 := a9) hf ha hb ht hA hB he
  have cn := td_cr_n (f := f) he
  have tn : td_nf (td_fo [] (td_cr f Wa.reverse Wb.reverse)) := td_nf_fo _ [] trivial
  have hA4 := hA.2.2.2
  have hB4 := hB.2.2.2
  have cp := td_cap60 tn (by omega) ho
  obtain ⟨d2, d3, d4, d5, d6, d7, l1, l2, lw⟩ := @td_copy q0 q1 p2 p3 p4 p5 p6 p7 p8 p9 (upd a1 5 (a2 db)) c2 c3 c4 c5 c6 c7 a8 a9 5 t _ (by omega) (by omega) (by omega) k1 (by omega) (td_lt40 ho)
  refine ⟨p2, p3, p4, p5, p6, p7, p8, p9, _, d2, d3, d4, d5, d6, d7, ⟨?_, l1, tn, by omega, ho⟩, fun e he het => td_sd_tr (k2 e he) (l2 e (by omega) het), fun post hp => kw post ?_⟩
  · rw [pk_us, pk_us, cn.1]; exact hB.2.1.1
  · unfold wX_carry_182
    refine br_t (by rw [k1.1]; exact nI_le (b := 40) ho (by omega)) (lw _ ?_)
    dsimp only
    rw [nI_clamp (show t < 2 ^ 31 by omega), l1.1]
    exact ⟨vp_in_nI (by omega) (by omega), hp⟩
theorem td_carry_full {da db t : Nat} {Wa Wb : List td_Op} {f : Bool} {p : Int32} (hf : f = false ↔ p = 0) (ha : da < 4) (hb : db < 4) (ht : t < 4) (hA : td_SL a1 a2 a3 a4 a5 a6 a7 da Wa) (hB : td_SL a1 a2 a3 a4 a5 a6 a7 db Wb) (he : td_in Wa = td_in Wb) (ho : ¬ td_ou (td_fo [] (td_cr f Wa.reverse Wb.reverse)) ≤ 40) :
    ∃ (p2 p3 p4 p5 p6 p7 p8 p9 : Int32) (c1 c2 c3 c4 c5 c6 c7 : Nat → Int32), (∀ e, e < 5 → td_sd a1 a2 a3 a4 a5 a6 a7 c1 c2 c3 c4 c5 c6 c7 e) ∧
      ∀ post : Int32 → St1 → Prop, post (-2) (q0, q1, p2, p3, p4, p5, p6, p7, p8, p9, c1, c2, c3, c4, c5, c6, c7, a8, a9) → wpX_carry post (q0, q1, q2, q3, q4, q5, q6, q7, q8, q9, a1, a2, a3, a4, a5, a6, a7, a8, a9) (nI da) (nI db) p (nI t) := by
  obtain ⟨p2, p3, p4, p5, p6, p7, p8, p9, c2, c3, c4, c5, c6, c7, k1, k2, kw⟩ := td_carry0 (q0 := q0) (q1 := q1) (q2 := q2) (q3 := q3) (q4 := q4) (q5 := q5) (q6 := q6) (q7 := q7) (q8 := q8) (q9 := q9) (a8 := a8) (a9 := a9) hf ha hb ht hA hB he
  have cn := td_cr_n (f := f) he
  have hA4 := hA.2.2.2
  have hB4 := hB.2.2.2
  have cA := td_SL_cap hA
  have tt := td_len (td_fo [] (td_cr f Wa.reverse Wb.reverse))
  have o80 := td_dlou k1 (by omega)
  refine ⟨p2, p3, p4, p5, p6, p7, p8, p9, _, c2, c3, c4, c5, c6, c7, k2, fun post hp => kw post ?_⟩
  unfold wX_carry_182
  exact br_f (by rw [k1.1]; exact nI_ge (a := 40) (by omega) (by omega)) hp
end
end
section
/-! Part 10: apply. -/
section
variable {q0 q1 q2 q3 q4 q5 q6 q7 q8 q9 : Int32} {a1 a2 a3 a4 a5 a6 a7 a8 a9 : Nat → Int32}
theorem td_ap_K (x : List td_Op) (t1 t2 : List Int32) : td_ap (List.replicate t1.length none ++ x) (t1 ++ t2) = t1 ++ td_ap x t2 := by
  induction t1 with
  | nil => rfl
  | cons c t1 ih =>
    rw [List.length_cons, List.replicate_succ, List.cons_append, List.cons_append]
    simp only [td_ap, ih, List.cons_append]
theorem td_iv_K (x : List td_Op) (t1 t2 : List Int32) : td_iv (List.replicate t1.length none ++ x) (t1 ++ t2) = List.replicate t1.length none ++ td_iv x t2 := by
  induction t1 with
  | nil => rfl
  | cons c t1 ih =>
    rw [List.length_cons, List.replicate_succ, List.cons_append, List.cons_append]
    simp only [td_iv, ih, List.cons_append]
theorem td_ap_D (x : List td_Op) (t1 t2 : List Int32) : td_ap (List.replicate t1.length (some none) ++ x) (t1 ++ t2) = td_ap x t2 := by
  induction t1 with
  | nil => rfl
  | cons c t1 ih =>
    rw [List.length_cons, List.replicate_succ, List.cons_append, List.cons_append]
    simp only [td_ap, ih]
theorem td_iv_D (x : List td_Op) (t1 t2 : List Int32) : td_iv (List.replicate t1.length (some none) ++ x) (t1 ++ t2) = td_AD t1 ++ td_iv x t2 := by
  induction t1 with
  | nil => rfl
  | cons c t1 ih =>
    rw [List.length_cons, List.replicate_succ, List.cons_append, List.cons_append]
    simp only [td_iv, ih]
    rfl
theorem td_ap_A (x : List td_Op) (cs t : List Int32) : td_ap (td_AD cs ++ x) t = cs ++ td_ap x t := by
  induction cs with
  | nil => rfl
  | cons c cs ih =>
    show c :: td_ap (td_AD cs ++ x) t = _
    rw [ih]; rfl
theorem td_iv_A (x : List td_Op) (cs t : List Int32) : td_iv (td_AD cs ++ x) t = List.replicate cs.length (some none) ++ td_iv x t := by
  induction cs with
  | nil => rfl
  | cons c cs ih =>
    show some none :: td_iv (td_AD cs ++ x) t = _
    rw [ih]; rfl
theorem td_text (a : Nat → Int32) (n : Nat) : ∀ f, ∃ l : List Int32, l.length = n ∧ td_sg a f l := by
  induction n with
  | zero => exact fun f => ⟨[], rfl, trivial⟩
  | succ n ih =>
    intro f
    obtain ⟨l, h1, h2⟩ := ih (f + 1)
    exact ⟨a f :: l, by rw [List.length_cons, h1], rfl, h2⟩
theorem td_bi3 {f g k : Nat} (hf : f + k ≤ 240) (hg : g + k ≤ 40) : ∀ (r i : Nat) (b9 : Nat → Int32), i + r = k → (∀ j, j < i → b9 (g + j) = a7 (f + j)) → (∀ j, j < g → b9 j = a9 j) →
    ∃ c9 : Nat → Int32, (∀ j, j < k → c9 (g + j) = a7 (f + j)) ∧ (∀ j, j < g → c9 j = a9 j) ∧
      ∀ post : St1 → Prop, post (q0, q1, q2, q3, q4, q5, q6, q7, q8, q9, a1, a2, a3, a4, a5, a6, a7, a8, c9) → ∃ fu, wX_bringIn_3 post (nI f) (nI g) (nI k) q0 q1 q2 q3 q4 q5 q6 q7 q8 q9 fu (nI i) a1 a2 a3 a4 a5 a6 a7 a8 b9 := by
  intro r
  induction r with
  | zero =>
    intro i b9 hi h1 h2
    have hi' : i = k := hi
    subst hi'
    exact ⟨b9, h1, h2, fun post hp => ⟨1, br_t (nI_le (Nat.le_refl _) (by omega)) hp⟩⟩
  | succ r ih =>
    intro i b9 hi h1 h2
    obtain ⟨c9, g1, g2, gw⟩ := ih (i + 1) (upd b9 (g + i) (a7 (f + i))) (by omega)
      (fun j hj => by
        by_cases e : j = i
        · subst e; rw [pk_us]
        · rw [pk_un (by omega)]; exact h1 j (by omega))
      (fun j hj => by rw [pk_un (by omega)]; exact h2 j hj)
    refine ⟨c9, g1, g2, fun post hp => ?_⟩
    obtain ⟨fu, hfu⟩ := gw post hp
    refine ⟨fu + 1, br_f (nI_ge (by omega) (by omega)) ?_⟩
    rw [nI_add f i, nI_add g i, nI_clamp (show f + i < 2 ^ 31 by omega), nI_clamp (show g + i < 2 ^ 31 by omega)]
    exact ⟨vp_in_nI (by omega) (by omega), vp_in_nI (by omega) (by omega), nm_e (nm_r (nI_1 i) hfu)⟩
theorem td_bringIn {f : Nat} {pr cs : List Int32} (hf : f + cs.length ≤ 240) (hg : pr.length + cs.length ≤ 40) (hs : td_sg a7 f cs) (h9 : td_sg a9 0 pr) :
    ∃ c9 : Nat → Int32, td_sg c9 0 (pr ++ cs) ∧ ∀ post : St1 → Prop, post (q0, q1, q2, q3, q4, q5, q6, q7, q8, q9, a1, a2, a3, a4, a5, a6, a7, a8, c9) → wpX_bringIn post (q0, q1, q2, q3, q4, q5, q6, q7, q8, q9, a1, a2, a3, a4, a5, a6, a7, a8, a9) (nI f) (nI pr.length) (nI cs.length) := by
  obtain ⟨c9, g1, g2, gw⟩ := td_bi3 (q0 := q0) (q1 := q1) (q2 := q2) (q3 := q3) (q4 := q4) (q5 := q5) (q6 := q6) (q7 := q7) (q8 := q8) (q9 := q9) (a1 := a1) (a2 := a2) (a3 := a3) (a4 := a4) (a5 := a5) (a6 := a6) (a7 := a7) (a8 := a8) hf hg cs.length 0 a9 (Nat.zero_add _) (fun j hj => absurd hj (Nat.not_lt_zero j)) (fun _ _ => rfl)
  refine ⟨c9, (td_sg_app _ _ _).mpr ⟨td_sg_cp _ h9 (fun i hi => ?_), td_sg_cp _ hs (fun i hi => ?_)⟩, gw⟩
  · rw [Nat.zero_add]; exact g2 i hi
  · rw [Nat.zero_add]; exact g1 i hi
theorem td_co3 {f g k : Nat} (hf : f + k ≤ 40) (hg : g + k ≤ 40) : ∀ (r i : Nat) (b9 : Nat → Int32), i + r = k → (∀ j, j < i → b9 (g + j) = a8 (f + j)) → (∀ j, j < g → b9 j = a9 j) →
    ∃ c9 : Nat → Int32, (∀ j, j < k → c9 (g + j) = a8 (f + j)) ∧ (∀ j, j < g → c9 j = a9 j) ∧
      ∀ post : St1 → Prop, post (q0, q1, q2, q3, q4, q5, q6, q7, q8, q9, a1, a2, a3, a4, a5, a6, a7, a8, c9) → ∃ fu, wX_carryOver_3 post (nI f) (nI g) (nI k) q0 q1 q2 q3 q4 q5 q6 q7 q8 q9 fu (nI i) a1 a2 a3 a4 a5 a6 a7 a8 b9 := by
  intro r
  induction r with
  | zero =>
    intro i b9 hi h1 h2
    have hi' : i = k := hi
    subst hi'
    exact ⟨b9, h1, h2, fun post hp => ⟨1, br_t (nI_le (Nat.le_refl _) (by omega)) hp⟩⟩
  | succ r ih =>
    intro i b9 hi h1 h2
    obtain ⟨c9, g1, g2, gw⟩ := ih (i + 1) (upd b9 (g + i) (a8 (f + i))) (by omega)
      (fun j hj => by
        by_cases e : j = i
        · subst e; rw [pk_us]
        · rw [pk_un (by omega)]; exact h1 j (by omega))
      (fun j hj => by rw [pk_un (by omega)]; exact h2 j hj)
    refine ⟨c9, g1, g2, fun post hp => ?_⟩
    obtain ⟨fu, hfu⟩ := gw post hp
    refine ⟨fu + 1, br_f (nI_ge (by omega) (by omega)) ?_⟩
    rw [nI_add f i, nI_add g i, nI_clamp (show f + i < 2 ^ 31 by omega), nI_clamp (show g + i < 2 ^ 31 by omega)]
    exact ⟨vp_in_nI (by omega) (by omega), vp_in_nI (by omega) (by omega), nm_e (nm_r (nI_1 i) hfu)⟩
theorem td_carryOver {f : Nat} {pr cs : List Int32} (hf : f + cs.length ≤ 40) (hg : pr.length + cs.length ≤ 40) (hs : td_sg a8 f cs) (h9 : td_sg a9 0 pr) :
    ∃ c9 : Nat → Int32, td_sg c9 0 (pr ++ cs) ∧ ∀ post : St1 → Prop, post (q0, q1, q2, q3, q4, q5, q6, q7, q8, q9, a1, a2, a3, a4, a5, a6, a7, a8, c9) → wpX_carryOver post (q0, q1, q2, q3, q4, q5, q6, q7, q8, q9, a1, a2, a3, a4, a5, a6, a7, a8, a9) (nI f) (nI pr.length) (nI cs.length) := by
  obtain ⟨c9, g1, g2, gw⟩ := td_co3 (q0 := q0) (q1 := q1) (q2 := q2) (q3 := q3) (q4 := q4) (q5 := q5) (q6 := q6) (q7 := q7) (q8 := q8) (q9 := q9) (a1 := a1) (a2 := a2) (a3 := a3) (a4 := a4) (a5 := a5) (a6 := a6) (a7 := a7) (a8 := a8) hf hg cs.length 0 a9 (Nat.zero_add _) (fun j hj => absurd hj (Nat.not_lt_zero j)) (fun _ _ => rfl)
  refine ⟨c9, (td_sg_app _ _ _).mpr ⟨td_sg_cp _ h9 (fun i hi => ?_), td_sg_cp _ hs (fun i hi => ?_)⟩, gw⟩
  · rw [Nat.zero_add]; exact g2 i hi
  · rw [Nat.zero_add]; exact g1 i hi
theorem td_gb2 {f k : Nat} (hfk : f + k ≤ 40) : ∀ (cs : List Int32) (i : Nat) (W : List td_Op) (b2 b3 b4 b5 b6 b7 : Nat → Int32), i + cs.length = k → td_sg a8 (f + i) cs → W.length + cs.length ≤ 100 → (td_lt W).length + cs.length ≤ 40 → td_dl b2 b3 b4 b5 b6 b7 5 W → (∀ e, e < 5 → td_sd a1 a2 a3 a4 a5 a6 a7 a1 b2 b3 b4 b5 b6 b7 e) →
    ∃ c2 c3 c4 c5 c6 c7 : Nat → Int32, td_dl c2 c3 c4 c5 c6 c7 5 (td_fo W (td_AD cs)) ∧ (∀ e, e < 5 → td_sd a1 a2 a3 a4 a5 a6 a7 a1 c2 c3 c4 c5 c6 c7 e) ∧
      ∀ post : St1 → Prop, post (q0, q1, q2, q3, q4, q5, q6, q7, q8, q9, a1, c2, c3, c4, c5, c6, c7, a8, a9) → ∃ fu, wX_giveBack_2 post (nI f) (nI k) fu (nI i) q0 q1 q2 q3 q4 q5 q6 q7 q8 q9 a1 b2 b3 b4 b5 b6 b7 a8 a9 := by
  intro cs
  induction cs with
  | nil =>
    intro i W b2 b3 b4 b5 b6 b7 hi _ _ _ hW hs
    have hi' : i = k := hi
    subst hi'
    exact ⟨b2, b3, b4, b5, b6, b7, hW, hs, fun post hp => ⟨1, br_t (nI_le (Nat.le_refl _) (by omega)) hp⟩⟩
  | cons c cs ih =>
    intro i W b2 b3 b4 b5 b6 b7 hi hg hb hl hW hs
    simp only [List.length_cons] at hi hb hl
    have hr := td_rr_le W
    obtain ⟨e2, e3, e4, e5, e6, e7, g1, g2, gw⟩ := @td_putAdd q0 q1 q2 q3 q4 q5 q6 q7 q8 q9 a1 b2 b3 b4 b5 b6 b7 a8 a9 5 W (by omega) hW (by omega) (by omega) c
    have wl := td_len W
    have wl' := td_len (td_ins c W)
    rw [td_in_ins, td_lt_ins] at wl'
    simp only [List.length_cons] at wl'
    obtain ⟨c2, c3, c4, c5, c6, c7, k1, k2, kw⟩ := ih (i + 1) (td_ins c W) e2 e3 e4 e5 e6 e7 (by omega) (by rw [← Nat.add_assoc]; exact hg.2) (by omega) (by rw [td_lt_ins]; simp only [List.length_cons]; omega) g1 (fun e he => td_sd_tr (hs e he) (g2 e he))
    refine ⟨c2, c3, c4, c5, c6, c7, k1, k2, fun post hp => ?_⟩
    obtain ⟨fu, hfu⟩ := kw post hp
    refine ⟨fu + 1, br_f (nI_ge (by omega) (by omega)) ?_⟩
    rw [nI_add f i, nI_clamp (show f + i < 2 ^ 31 by omega), hg.1]
    exact ⟨vp_in_nI (by omega) (by omega), gw _ (nm_r (nI_1 i) hfu)⟩
theorem td_giveBack {f : Nat} {W : List td_Op} {cs : List Int32} {b2 b3 b4 b5 b6 b7 : Nat → Int32} (hfk : f + cs.length ≤ 40) (hg : td_sg a8 f cs) (hb : W.length + cs.length ≤ 100) (hl : (td_lt W).length + cs.length ≤ 40) (hW : td_dl b2 b3 b4 b5 b6 b7 5 W) (hs : ∀ e, e < 5 → td_sd a1 a2 a3 a4 a5 a6 a7 a1 b2 b3 b4 b5 b6 b7 e) :
    ∃ c2 c3 c4 c5 c6 c7 : Nat → Int32, td_dl c2 c3 c4 c5 c6 c7 5 (td_fo W (td_AD cs)) ∧ (∀ e, e < 5 → td_sd a1 a2 a3 a4 a5 a6 a7 a1 c2 c3 c4 c5 c6 c7 e) ∧
      ∀ post : St1 → Prop, post (q0, q1, q2, q3, q4, q5, q6, q7, q8, q9, a1, c2, c3, c4, c5, c6, c7, a8, a9) → wpX_giveBack post (q0, q1, q2, q3, q4, q5, q6, q7, q8, q9, a1, b2, b3, b4, b5, b6, b7, a8, a9) (nI f) (nI cs.length) :=
  td_gb2 hfk cs 0 W b2 b3 b4 b5 b6 b7 (Nat.zero_add _) hg hb hl hW hs
theorem td_196 {t mk : Nat} (hm : mk ≤ 40) : ∀ (r i : Nat) (b8 : Nat → Int32), i + r = mk → (∀ j, j < i → b8 j = a9 j) →
    ∃ c8 : Nat → Int32, (∀ j, j < mk → c8 j = a9 j) ∧
      ∀ (post : Int32 → St1 → Prop) (d1 d2 d3 d4 d5 d6 d7 : Nat → Int32), (∀ P : St1 → Prop, P (q0, (nI mk), q2, q3, q4, q5, q6, q7, q8, q9, d1, d2, d3, d4, d5, d6, d7, c8, a9) → wpX_copy P (q0, (nI mk), q2, q3, q4, q5, q6, q7, q8, q9, a1, a2, a3, a4, a5, a6, a7, c8, a9) 5 (nI t)) → post (nI mk) (q0, (nI mk), q2, q3, q4, q5, q6, q7, q8, q9, d1, d2, d3, d4, d5, d6, d7, c8, a9) → ∃ fu, wX_apply_196 post (nI t) (nI mk) q0 q1 q2 q3 q4 q5 q6 q7 q8 q9 fu (nI i) a1 a2 a3 a4 a5 a6 a7 b8 a9 := by
  intro r
  induction r with
  | zero =>
    intro i b8 hi h1
    have hi' : i = mk := hi
    subst hi'
    exact ⟨b8, h1, fun post d1 d2 d3 d4 d5 d6 d7 hc hp => ⟨1, br_t (nI_le (Nat.le_refl _) (by omega)) (hc _ hp)⟩⟩
  | succ r ih =>
    intro i b8 hi h1
    obtain ⟨c8, g1, gw⟩ := ih (i + 1) (upd b8 i (a9 i)) (by omega)
      (fun j hj => by
        by_cases e : j = i
        · subst e; rw [pk_us]
        · rw [pk_un e]; exact h1 j (by omega))
    refine ⟨c8, g1, fun post d1 d2 d3 d4 d5 d6 d7 hc hp => ?_⟩
    obtain ⟨fu, hfu⟩ := gw post d1 d2 d3 d4 d5 d6 d7 hc hp
    refine ⟨fu + 1, br_f (nI_ge (by omega) (by omega)) ?_⟩
    rw [nI_clamp (show i < 2 ^ 31 by omega)]
    exact ⟨vp_in_nI (by omega) (by omega), vp_in_nI (by omega) (by omega), nm_e (nm_r (nI_1 i) hfu)⟩
theorem td_59 {s t : Nat} (hs4 : s < 4) : ∀ (m i : Nat) (x : List td_Op) (o l : Nat) (tx pr : List Int32) (W : List td_Op) (b2 b3 b4 b5 b6 b7 b9 : Nat → Int32),
    td_fu a5 a6 m (s * 64 + i) x → a3 s = nI (i + m) → i + m ≤ 64 → td_sg a8 o tx → o + tx.length ≤ 40 → td_in x = tx.length → td_sg a7 l (td_lt x) → s * 40 ≤ l → l + (td_lt x).length ≤ s * 40 + 40 → td_sg b9 0 pr → pr.length + td_ou x ≤ 40 → td_dl b2 b3 b4 b5 b6 b7 5 W → (∀ e, e < 5 → td_sd a1 a2 a3 a4 a5 a6 a7 a1 b2 b3 b4 b5 b6 b7 e) → (td_fo W (td_iv x tx)).length ≤ 80 → (td_lt (td_fo W (td_iv x tx))).length ≤ 40 →
    ∃ c2 c3 c4 c5 c6 c7 c9 : Nat → Int32, td_dl c2 c3 c4 c5 c6 c7 5 (td_fo W (td_iv x tx)) ∧ (∀ e, e < 5 → td_sd a1 a2 a3 a4 a5 a6 a7 a1 c2 c3 c4 c5 c6 c7 e) ∧ td_sg c9 0 (pr ++ td_ap x tx) ∧
      ∀ post : Int32 → St1 → Prop, (∃ fu, wX_apply_196 post (nI t) (nI (pr.length + td_ou x)) q0 q1 q2 q3 q4 q5 q6 q7 q8 q9 fu 0 a1 c2 c3 c4 c5 c6 c7 a8 c9) → ∃ fu, wX_apply_59 post (nI s) (nI t) fu (nI o) (nI l) (nI pr.length) (nI i) q0 q1 q2 q3 q4 q5 q6 q7 q8 q9 a1 b2 b3 b4 b5 b6 b7 a8 b9 := by
  have v : vp_in (nI s) 6 := vp_in_nI (by omega) (by omega)
  intro m
  induction m with
  | zero =>
    intro i x o l tx pr W b2 b3 b4 b5 b6 b7 b9 hx h3 him ht hot hin hl hl1 hl2 h9 hpr hW hsd hT hTl
    have hx0 : x = [] := hx
    subst hx0
    refine ⟨b2, b3, b4, b5, b6, b7, b9, hW, hsd, by show td_sg b9 0 (pr ++ []); rw [List.append_nil]; exact h9, fun post hp => ⟨1, And.intro v ?_⟩⟩
    rw [nI_clamp (show s < 2 ^ 31 by omega), (hsd s (by omega)).2.2.1, h3]
    exact br_t (nI_le (Nat.le_refl _) (by omega)) hp
  | succ m ih =>
    intro i x o l tx pr W b2 b3 b4 b5 b6 b7 b9 hx h3 him ht hot hin hl hl1 hl2 h9 hpr hW hsd hT hTl
    obtain ⟨n, x1, x2, h6, hn, ex, el, ek, ef⟩ := hx
    have lW := td_fo_len W (td_iv x tx)
    have lL := td_la_fo (td_iv x tx) W
    have rW := td_rr_le W
    have xin : td_in x = td_in x1 + td_in x2 := by rw [ex, td_in_app]
    have xou : td_ou x = td_ou x1 + td_ou x2 := by rw [ex, td_ou_app]
    have xlt : td_lt x = td_lt x1 ++ td_lt x2 := by rw [ex, td_lt_app]
    have x1len : x1.length = td_in x1 + (td_lt x1).length := td_len x1
    have x1ou := td_lt_ou x1
    have sS := hsd s (by omega)
    have e5 : b5 (s * 64 + i) = a5 (s * 64 + i) := (sS.2.2.2.2.1 i (by omega)).1
    have e6 : b6 (s * 64 + i) = nI n := by rw [(sS.2.2.2.2.1 i (by omega)).2]; exact h6
    have vi : vp_in (nI (s * 64 + i)) 448 := vp_in_nI (by omega) (by omega)
    have h3' : a3 s = nI (i + 1 + m) := by rw [h3]; congr 1; omega
    have txs : tx = tx.take (td_in x1) ++ tx.drop (td_in x1) := (List.take_append_drop _ _).symm
    have tl1 : (tx.take (td_in x1)).length = td_in x1 := by rw [List.length_take]; omega
    have tl2 : (tx.drop (td_in x1)).length = td_in x2 := by rw [List.length_drop]; omega
    have tsg : td_sg a8 o (tx.take (td_in x1)) ∧ td_sg a8 (o + td_in x1) (tx.drop (td_in x1)) := by
      have h := ht
      rw [txs, td_sg_app, tl1] at h
      exact h
    generalize tx.take (td_in x1) = t1 at txs tl1 tsg
    generalize tx.drop (td_in x1) = t2 at txs tl2 tsg
    have txl : tx.length = t1.length + t2.length := by rw [txs, List.length_append]
    rw [xlt, td_sg_app] at hl
    rw [xlt, List.length_append] at hl2
    have hk1 : a5 (s * 64 + i) = 1 ∨ a5 (s * 64 + i) = 2 ∨ a5 (s * 64 + i) = 3 := by
      cases x1 with
      | nil => simp only [List.length_nil] at el; omega
      | cons o' x1 =>
        rw [← ek o' (List.mem_cons_self ..)]
        rcases o' with _ | _ | c
        · exact Or.inl rfl
        · exact Or.inr (Or.inl rfl)
        · exact Or.inr (Or.inr rfl)
    rcases hk1 with hk1 | hk1 | hk1
    · have ex1 : x1 = List.replicate n none := by
        rw [List.eq_replicate_iff]
        refine ⟨el, fun o' ho => ?_⟩
        have := ek o' ho
        rw [hk1] at this
        rcases o' with _ | _ | c
        · rfl
        · exact absurd this (by show ¬ (2 : Int32) = 1; decide)
        · exact absurd this (by show ¬ (3 : Int32) = 1; decide)
      have c1 : td_in x1 = n := by rw [ex1, td_in_K]
      have c2 : td_ou x1 = n := by rw [ex1, td_ou_K]
      have c3 : td_lt x1 = [] := by rw [ex1, td_lt_K]
      have t1n : t1.length = n := by omega
      have ea : td_ap x tx = t1 ++ td_ap x2 t2 := by
        rw [ex, ex1, txs, ← t1n, td_ap_K]
      have ei : td_iv x tx = List.replicate n none ++ td_iv x2 t2 := by
        rw [ex, ex1, txs, ← t1n, td_iv_K]
      obtain ⟨c9, g1, gw⟩ := @td_carryOver q0 q1 q2 q3 q4 q5 q6 q7 q8 q9 a1 b2 b3 b4 b5 b6 b7 a8 b9 o pr t1 (by omega) (by omega) tsg.1 h9
      obtain ⟨d2, d3, d5, d6, k1, k2, kw⟩ := @td_putKeep q0 q1 q2 q3 q4 q5 q6 q7 q8 q9 a1 b2 b3 b4 b5 b6 b7 a8 c9 5 W (by omega) hW (by omega) n (by omega)
      have eT : td_fo (List.replicate n none ++ W) (td_iv x2 t2) = td_fo W (td_iv x tx) := by rw [ei, td_fo_K]
      obtain ⟨r2, r3, r4, r5, r6, r7, r9, j1, j2, j3, jw⟩ := ih (i + 1) x2 (o + n) l t2 (pr ++ t1) (List.replicate n none ++ W) d2 d3 b4 d5 d6 b7 c9 ef h3' (by omega) (by rw [← c1]; exact tsg.2) (by omega) (by omega) (by rw [c3] at hl; exact hl.2) hl1 (by omega) g1 (by rw [List.length_append]; omega) k1 (fun e he => td_sd_tr (hsd e he) (k2 e he)) (by rw [eT]; exact hT) (by rw [eT]; exact hTl)
      rw [eT] at j1
      refine ⟨r2, r3, r4, r5, r6, r7, r9, j1, j2, by rw [ea, ← List.append_assoc]; exact j3, fun post hp => ?_⟩
      have eL : (pr ++ t1).length + td_ou x2 = pr.length + td_ou x := by rw [List.length_append]; omega
      obtain ⟨fu, hfu⟩ := jw post (by rw [eL]; exact hp)
      refine ⟨fu + 1, And.intro v ?_⟩
      rw [nI_clamp (show s < 2 ^ 31 by omega), sS.2.2.1, h3, td_e64, nI_clamp (show s * 64 + i < 2 ^ 31 by omega)]
      refine br_f (nI_ge (by omega) (by omega)) ⟨vi, nm_r (e5.trans hk1) ⟨vi, nm_r e6 ?_⟩⟩
      rw [← t1n] at kw
      rw [← t1n]
      refine br_t rfl (gw _ (kw _ (nm_r (e' := nI (o + n)) (by rw [nI_add, t1n]) (nm_r (e' := nI (pr ++ t1).length) (by rw [nI_add, List.length_append]) (nm_r (nI_1 i) hfu)))))
    · have ex1 : x1 = List.replicate n (some none) := by
        rw [List.eq_replicate_iff]
        refine ⟨el, fun o' ho => ?_⟩
        have := ek o' ho
        rw [hk1] at this
        rcases o' with _ | _ | c
        · exact absurd this (by show ¬ (1 : Int32) = 2; decide)
        · rfl
        · exact absurd this (by show ¬ (3 : Int32) = 2; decide)
      have c1 : td_in x1 = n := by rw [ex1, td_in_D]
      have c2 : td_ou x1 = 0 := by rw [ex1, td_ou_D]
      have c3 : td_lt x1 = [] := by rw [ex1, td_lt_D]
      have t1n : t1.length = n := by omega
      have ea : td_ap x tx = td_ap x2 t2 := by
        rw [ex, ex1, txs, ← t1n, td_ap_D]
      have ei : td_iv x tx = td_AD t1 ++ td_iv x2 t2 := by
        rw [ex, ex1, txs, ← t1n, td_iv_D]
      have e4 : (td_iv x tx).length = t1.length + (td_iv x2 t2).length := by
        rw [ei, List.length_append]; simp [td_AD]
      have e5' : (td_lt (td_iv x tx)).length = t1.length + (td_lt (td_iv x2 t2)).length := by
        rw [ei, td_lt_app, td_lt_AD, List.length_append]
      obtain ⟨d2, d3, d4, d5, d6, d7, k1, k2, kw⟩ := @td_giveBack q0 q1 q2 q3 q4 q5 q6 q7 q8 q9 a1 a2 a3 a4 a5 a6 a7 a8 b9 o W t1 b2 b3 b4 b5 b6 b7 (by omega) tsg.1 (by omega) (by omega) hW hsd
      have eT : td_fo (td_fo W (td_AD t1)) (td_iv x2 t2) = td_fo W (td_iv x tx) := by rw [ei, td_fo_app]
      obtain ⟨r2, r3, r4, r5, r6, r7, r9, j1, j2, j3, jw⟩ := ih (i + 1) x2 (o + n) l t2 pr (td_fo W (td_AD t1)) d2 d3 d4 d5 d6 d7 b9 ef h3' (by omega) (by rw [← c1]; exact tsg.2) (by omega) (by omega) (by rw [c3] at hl; exact hl.2) hl1 (by omega) h9 (by omega) k1 k2 (by rw [eT]; exact hT) (by rw [eT]; exact hTl)
      rw [eT] at j1
      refine ⟨r2, r3, r4, r5, r6, r7, r9, j1, j2, by rw [ea]; exact j3, fun post hp => ?_⟩
      have eL : pr.length + td_ou x2 = pr.length + td_ou x := by omega
      obtain ⟨fu, hfu⟩ := jw post (by rw [eL]; exact hp)
      refine ⟨fu + 1, And.intro v ?_⟩
      rw [nI_clamp (show s < 2 ^ 31 by omega), sS.2.2.1, h3, td_e64, nI_clamp (show s * 64 + i < 2 ^ 31 by omega)]
      refine br_f (nI_ge (by omega) (by omega)) ⟨vi, nm_r (e5.trans hk1) ⟨vi, nm_r e6 ?_⟩⟩
      rw [← t1n]
      refine br_f (by decide) (br_t rfl (kw _ (nm_r (e' := nI (o + n)) (by rw [nI_add, t1n]) (nm_r (nI_1 i) hfu))))
    · have eall := td_allA x1 (fun o' ho => by rw [ek o' ho, hk1])
      have c1 : td_in x1 = 0 := by rw [eall.1, td_in_AD]
      have csl : (td_lt x1).length = n := by rw [eall.2, el]
      have c2 : td_ou x1 = n := by rw [eall.1, td_ou_AD]; exact csl
      have t1n : t1 = [] := List.length_eq_zero_iff.mp (by omega)
      have et2 : t2 = tx := by rw [txs, t1n]; rfl
      have ea : td_ap x tx = td_lt x1 ++ td_ap x2 tx := by
        have h := td_ap_A x2 (td_lt x1) tx
        rw [← eall.1, ← ex] at h
        exact h
      have ei : td_iv x tx = List.replicate n (some none) ++ td_iv x2 tx := by
        have h := td_iv_A x2 (td_lt x1) tx
        rw [← eall.1, ← ex, csl] at h
        exact h
      have b7sg : td_sg b7 l (td_lt x1) := by
        refine td_sg_cp _ hl.1 (fun j hj => ?_)
        have := sS.2.2.2.2.2 (l + j - s * 40) (by omega)
        rw [show s * 40 + (l + j - s * 40) = l + j by omega] at this
        exact this
      obtain ⟨c9, g1, gw⟩ := @td_bringIn q0 q1 q2 q3 q4 q5 q6 q7 q8 q9 a1 b2 b3 b4 b5 b6 b7 a8 b9 l pr (td_lt x1) (by omega) (by omega) b7sg h9
      obtain ⟨d3, d5, d6, k1, k2, kw⟩ := @td_putDrop q0 q1 q2 q3 q4 q5 q6 q7 q8 q9 a1 b2 b3 b4 b5 b6 b7 a8 c9 5 W (by omega) hW (by omega) n (by omega)
      have eT : td_fo (List.replicate n (some none) ++ W) (td_iv x2 tx) = td_fo W (td_iv x tx) := by rw [ei, td_fo_D]
      obtain ⟨r2, r3, r4, r5, r6, r7, r9, j1, j2, j3, jw⟩ := ih (i + 1) x2 o (l + n) tx (pr ++ td_lt x1) (List.replicate n (some none) ++ W) b2 d3 b4 d5 d6 b7 c9 ef h3' (by omega) ht hot (by omega) (by rw [← csl]; exact hl.2) (by omega) (by omega) g1 (by rw [List.length_append]; omega) k1 (fun e he => td_sd_tr (hsd e he) (k2 e he)) (by rw [eT]; exact hT) (by rw [eT]; exact hTl)
      rw [eT] at j1
      refine ⟨r2, r3, r4, r5, r6, r7, r9, j1, j2, by rw [ea, ← List.append_assoc]; exact j3, fun post hp => ?_⟩
      have eL : (pr ++ td_lt x1).length + td_ou x2 = pr.length + td_ou x := by rw [List.length_append]; omega
      obtain ⟨fu, hfu⟩ := jw post (by rw [eL]; exact hp)
      refine ⟨fu + 1, And.intro v ?_⟩
      rw [nI_clamp (show s < 2 ^ 31 by omega), sS.2.2.1, h3, td_e64, nI_clamp (show s * 64 + i < 2 ^ 31 by omega)]
      refine br_f (nI_ge (by omega) (by omega)) ⟨vi, nm_r (e5.trans hk1) ⟨vi, nm_r e6 ?_⟩⟩
      rw [← csl] at kw
      rw [← csl]
      refine br_f (by decide) (br_f (by decide) (gw _ (kw _ (nm_r (e' := nI (l + n)) (by rw [nI_add, csl]) (nm_r (e' := nI (pr ++ td_lt x1).length) (by rw [nI_add, List.length_append]) (nm_r (nI_1 i) hfu))))))
theorem td_apply_bad {s t n : Nat} {W : List td_Op} (hs : s < 4) (ht : t < 4) (hS : td_SL a1 a2 a3 a4 a5 a6 a7 s W) (hn : n ≤ 40) (hne : n ≠ td_in W) {post : Int32 → St1 → Prop} (hp : post (-3) (q0, (nI n), q2, q3, q4, q5, q6, q7, q8, q9, a1, a2, a3, a4, a5, a6, a7, a8, a9)) : wpX_apply post (q0, (nI n), q2, q3, q4, q5, q6, q7, q8, q9, a1, a2, a3, a4, a5, a6, a7, a8, a9) (nI s) (nI t) := by
  unfold wpX_apply
  dsimp only
  refine td_slot hs (br_f (by decide) (td_slot ht (br_f (by decide) ?_)))
  rw [nI_clamp (show s < 2 ^ 31 by omega), hS.1]
  obtain ⟨_, _, _, h1, _⟩ := hS
  exact ⟨vp_in_nI (by omega) (by omega), br_f (fun z => hne ((nI_eq (by omega) (by omega)).mp z)) hp⟩
theorem td_apply {s t : Nat} {W : List td_Op} {tx : List Int32} (hs : s < 4) (ht : t < 4) (hS : td_SL a1 a2 a3 a4 a5 a6 a7 s W) (hx : td_sg a8 0 tx) (he : td_in W = tx.length) :
    ∃ c1 c2 c3 c4 c5 c6 c7 c8 c9 : Nat → Int32, td_SL c1 c2 c3 c4 c5 c6 c7 t (td_fo [] (td_iv W.reverse tx)) ∧ (∀ e, e < 5 → e ≠ t → td_sd a1 a2 a3 a4 a5 a6 a7 c1 c2 c3 c4 c5 c6 c7 e) ∧ td_sg c8 0 (td_ap W.reverse tx) ∧
      ∀ post : Int32 → St1 → Prop, post (nI (td_ou W)) (q0, (nI (td_ou W)), q2, q3, q4, q5, q6, q7, q8, q9, c1, c2, c3, c4, c5, c6, c7, c8, c9) → wpX_apply post (q0, (nI tx.length), q2, q3, q4, q5, q6, q7, q8, q9, a1, a2, a3, a4, a5, a6, a7, a8, a9) (nI s) (nI t) := by
  have hS' := td_SL_sd hS (td_sdw (m := a2 s) (show s < 5 by omega))
  have cS := td_SL_cap hS
  have hS4 := hS.2.2.2
  have cnt := td_n_ap W.reverse tx (by rw [td_in_rev]; exact he)
  rw [td_in_rev, td_ou_rev] at cnt
  have ti : td_in (td_fo [] (td_iv W.reverse tx)) = td_ou W := by
    rw [td_in_fo, cnt.2.1]; exact Nat.zero_add _
  have to : td_ou (td_fo [] (td_iv W.reverse tx)) = td_in W := by
    rw [td_ou_fo, cnt.2.2]; exact Nat.zero_add _
  have tn : td_nf (td_fo [] (td_iv W.reverse tx)) := td_nf_fo _ [] trivial
  have tl := td_lt_ou (td_fo [] (td_iv W.reverse tx))
  have tt := td_len (td_fo [] (td_iv W.reverse tx))
  obtain ⟨_, ⟨_, g3, _, g5, g7⟩, _⟩ := hS'
  obtain ⟨c2, c3, c4, c5, c6, c7, c9, k1, k2, k3, kw⟩ := td_59 (q0 := q0) (q1 := nI tx.length) (q2 := q2) (q3 := q3) (q4 := q4) (q5 := q5) (q6 := q6) (q7 := q7) (q8 := q8) (q9 := q9) (a1 := upd a1 5 (a2 s)) (a2 := upd a2 5 0) (a3 := upd a3 5 0) (a4 := upd a4 5 0) (a5 := a5) (a6 := a6) (a7 := a7) (a8 := a8) (t := t) hs (td_rr W).length 0 W.reverse 0 (s * 40) tx [] [] (upd a2 5 0) (upd a3 5 0) (upd a4 5 0) a5 a6 a7 a9
    (td_rv_fu _ W rfl g5) (by rw [Nat.zero_add]; exact g3) (by omega) hx (by omega) (by rw [td_in_rev]; exact he) (by rw [td_lt_rev]; exact td_lv_sg _ g7) (Nat.le_refl _) (by rw [td_lt_rev, List.length_reverse]; omega) trivial (by rw [td_ou_rev]; exact Nat.le_trans (Nat.le_of_eq (Nat.zero_add _)) hS4.2) ⟨pk_us, pk_us, pk_us, trivial, trivial⟩ (fun e he => td_sd_rfl _ _ _ _ _ _ _ e) (by omega) (by omega)
  have eo : ([] : List Int32).length + td_ou W.reverse = td_ou W := by rw [td_ou_rev]; exact Nat.zero_add _
  have cp := td_cap60 tn (by omega) (by omega)
  obtain ⟨c8, m1, mw⟩ := td_196 (q0 := q0) (q1 := nI tx.length) (q2 := q2) (q3 := q3) (q4 := q4) (q5 := q5) (q6 := q6) (q7 := q7) (q8 := q8) (q9 := q9) (a1 := upd a1 5 (a2 s)) (a2 := c2) (a3 := c3) (a4 := c4) (a5 := c5) (a6 := c6) (a7 := c7) (a9 := c9) (t := t) (mk := td_ou W) hS4.2 (td_ou W) 0 a8 (Nat.zero_add _) (fun j hj => absurd hj (Nat.not_lt_zero j))
  obtain ⟨d2, d3, d4, d5, d6, d7, l1, l2, lw⟩ := @td_copy q0 (nI (td_ou W)) q2 q3 q4 q5 q6 q7 q8 q9 (upd a1 5 (a2 s)) c2 c3 c4 c5 c6 c7 c8 c9 5 t _ (by omega) (by omega) (by omega) k1 (by omega) (by omega)
  refine ⟨_, d2, d3, d4, d5, d6, d7, c8, c9, ⟨?_, l1, tn, by omega, by omega⟩, fun e he het => td_sd_tr (td_sdw he) (td_sd_tr (k2 e he) (l2 e (by omega) het)), ?_, fun post hp => ?_⟩
  · rw [pk_us, pk_us, ti]; exact hS.2.1.1
  · refine td_sg_cp _ k3 (fun j hj => ?_)
    rw [Nat.zero_add]
    exact m1 j (by rw [← cnt.1]; exact hj)
  · unfold wpX_apply
    dsimp only
    refine td_slot hs (br_f (by decide) (td_slot ht (br_f (by decide) ?_)))
    rw [nI_clamp (show s < 2 ^ 31 by omega)]
    have v : vp_in (nI s) 6 := vp_in_nI (by omega) (by omega)
    refine ⟨v, br_t (by rw [hS.1, he]) ⟨v, td_wipe (d := 5) (by omega) _ (nm_r (td_m40 s) (kw post ?_))⟩⟩
    rw [eo]
    exact mw post _ d2 d3 d4 d5 d6 d7 lw hp
end
end
section
/-! Part 11: same, other, inLength, fit. -/
section
variable {q0 q1 q2 q3 q4 q5 q6 q7 q8 q9 : Int32} {a1 a2 a3 a4 a5 a6 a7 a8 a9 : Nat → Int32}
theorem td_s137 {post : Int32 → Prop} {u v n : Nat} (hu : u < 4) (hv : v < 4) (hn : n ≤ 40) (h4 : a4 u = nI n) (he : ∀ i, i < n → a7 (u * 40 + i) = a7 (v * 40 + i)) (hp : post 1) : ∀ r i : Nat, i + r = n → ∃ fu, wX_same_137 post (nI u) (nI v) q0 q1 q2 q3 q4 q5 q6 q7 q8 q9 a1 a2 a3 a4 a5 a6 a7 a8 a9 fu (nI i) := by
  have w : vp_in (nI u) 6 := vp_in_nI (by omega) (by omega)
  intro r
  induction r with
  | zero =>
    intro i hi
    refine ⟨1, And.intro w ?_⟩
    rw [nI_clamp (show u < 2 ^ 31 by omega), h4]
    exact br_t (nI_le (by omega) (by omega)) hp
  | succ r ih =>
    intro i hi
    obtain ⟨fu, hfu⟩ := ih (i + 1) (by omega)
    refine ⟨fu + 1, And.intro w ?_⟩
    rw [nI_clamp (show u < 2 ^ 31 by omega), h4, td_e40, td_e40, nI_clamp (show u * 40 + i < 2 ^ 31 by omega), nI_clamp (show v * 40 + i < 2 ^ 31 by omega)]
    exact br_f (nI_ge (by omega) (by omega)) ⟨vp_in_nI (by omega) (by omega), vp_in_nI (by omega) (by omega), br_t (he i (by omega)) (nm_r (nI_1 i) hfu)⟩
theorem td_s67 {post : Int32 → Prop} {u v n : Nat} (hu : u < 4) (hv : v < 4) (hn : n ≤ 64) (h3 : a3 u = nI n) (he : ∀ i, i < n → a5 (u * 64 + i) = a5 (v * 64 + i) ∧ a6 (u * 64 + i) = a6 (v * 64 + i)) (hp : ∃ fu, wX_same_137 post (nI u) (nI v) q0 q1 q2 q3 q4 q5 q6 q7 q8 q9 a1 a2 a3 a4 a5 a6 a7 a8 a9 fu 0) : ∀ r i : Nat, i + r = n → ∃ fu, wX_same_67 post (nI u) (nI v) q0 q1 q2 q3 q4 q5 q6 q7 q8 q9 a1 a2 a3 a4 a5 a6 a7 a8 a9 fu (nI i) := by
  have w : vp_in (nI u) 6 := vp_in_nI (by omega) (by omega)
  intro r
  induction r with
  | zero =>
    intro i hi
    refine ⟨1, And.intro w ?_⟩
    rw [nI_clamp (show u < 2 ^ 31 by omega), h3]
    exact br_t (nI_le (by omega) (by omega)) hp
  | succ r ih =>
    intro i hi
    obtain ⟨fu, hfu⟩ := ih (i + 1) (by omega)
    refine ⟨fu + 1, And.intro w ?_⟩
    rw [nI_clamp (show u < 2 ^ 31 by omega), h3, td_e64, td_e64, nI_clamp (show u * 64 + i < 2 ^ 31 by omega), nI_clamp (show v * 64 + i < 2 ^ 31 by omega)]
    have v1 : vp_in (nI (u * 64 + i)) 448 := vp_in_nI (by omega) (by omega)
    have v2 : vp_in (nI (v * 64 + i)) 448 := vp_in_nI (by omega) (by omega)
    exact br_f (nI_ge (by omega) (by omega)) ⟨v1, v2, br_t (he i (by omega)).1 ⟨v1, v2, br_t (he i (by omega)).2 (nm_r (nI_1 i) hfu)⟩⟩
theorem td_sameOK {post : Int32 → Prop} {u v : Nat} {W : List td_Op} (hu : u < 4) (hv : v < 4) (hU : td_SL a1 a2 a3 a4 a5 a6 a7 u W) (hV : td_SL a1 a2 a3 a4 a5 a6 a7 v W) (hp : post 1) : wpX_same post (q0, q1, q2, q3, q4, q5, q6, q7, q8, q9, a1, a2, a3, a4, a5, a6, a7, a8, a9) (nI u) (nI v) := by
  have c := td_SL_cap hU
  obtain ⟨u1, ⟨u2, u3, u4, u5, u6⟩, _⟩ := hU
  obtain ⟨v1, ⟨v2, v3, v4, v5, v6⟩, _⟩ := hV
  unfold wpX_same
  dsimp only
  refine td_slot hu (br_f (by decide) (td_slot hv (br_f (by decide) ?_)))
  rw [nI_clamp (show u < 2 ^ 31 by omega), nI_clamp (show v < 2 ^ 31 by omega)]
  have wu : vp_in (nI u) 6 := vp_in_nI (by omega) (by omega)
  have wv : vp_in (nI v) 6 := vp_in_nI (by omega) (by omega)
  refine ⟨wu, wv, br_t (by rw [u1, v1]) ⟨wu, wv, br_t (by rw [u3, v3]) ⟨wu, wv, br_t (by rw [u4, v4]) ?_⟩⟩⟩
  exact td_s67 hu hv (by omega) u3 (td_rv_two _ u5 v5) (td_s137 hu hv c.2 u4 (td_lv_two _ u6 v6) hp _ 0 (Nat.zero_add _)) _ 0 (Nat.zero_add _)
theorem td_o5 {a b c : Nat} (ha : a < 4) (hb : b < 4) (hc : c < 4) : ∀ (j fr : Nat), j ≤ 4 → ∃ r : Nat, (r = fr ∨ (r < j ∧ r ≠ a ∧ r ≠ b ∧ r ≠ c)) ∧ ((∃ s, s < j ∧ s ≠ a ∧ s ≠ b ∧ s ≠ c) → (r < j ∧ r ≠ a ∧ r ≠ b ∧ r ≠ c)) ∧
    ∀ post : Int32 → Prop, post (nI r) → ∃ fu, wL_other_5 post (nI a) (nI b) (nI c) fu (nI fr) (nI j + (-1)) := by
  intro j
  induction j with
  | zero =>
    intro fr _
    refine ⟨fr, Or.inl rfl, fun ⟨s, h, _⟩ => absurd h (Nat.not_lt_zero s), fun post hp => ⟨1, br_t (by decide) hp⟩⟩
  | succ j ih =>
    intro fr hj
    by_cases ok : j ≠ a ∧ j ≠ b ∧ j ≠ c
    · obtain ⟨r, h1, h2, hw⟩ := ih j (by omega)
      have hr : r < j + 1 ∧ r ≠ a ∧ r ≠ b ∧ r ≠ c := by
        rcases h1 with z | z
        · subst z; exact ⟨by omega, ok⟩
        · exact ⟨by omega, z.2⟩
      refine ⟨r, Or.inr hr, fun _ => hr, fun post hp => ?_⟩
      obtain ⟨fu, hfu⟩ := hw post hp
      refine ⟨fu + 1, ?_⟩
      rw [pk_m1]
      exact br_f (nI_pos (by omega)) (br_f (fun z => ok.1 ((nI_eq (by omega) (by omega)).mp z)) (br_f (fun z => ok.2.1 ((nI_eq (by omega) (by omega)).mp z)) (br_f (fun z => ok.2.2 ((nI_eq (by omega) (by omega)).mp z)) (nm_e hfu))))
    · obtain ⟨r, h1, h2, hw⟩ := ih fr (by omega)
      refine ⟨r, ?_, fun ⟨s, hs, s1, s2, s3⟩ => ?_, fun post hp => ?_⟩
      · rcases h1 with z | z
        · exact Or.inl z
        · exact Or.inr ⟨by omega, z.2⟩
      · have : s ≠ j := fun z => ok (by subst z; exact ⟨s1, s2, s3⟩)
        have := h2 ⟨s, by omega, s1, s2, s3⟩
        exact ⟨by omega, this.2⟩
      · obtain ⟨fu, hfu⟩ := hw post hp
        refine ⟨fu + 1, ?_⟩
        rw [pk_m1]
        refine br_f (nI_pos (by omega)) (br_c (fun _ => nm_e hfu) (fun z1 => br_c (fun _ => nm_e hfu) (fun z2 => br_c (fun _ => nm_e hfu) (fun z3 => ?_))))
        exact absurd ⟨fun e => z1 (by rw [e]), fun e => z2 (by rw [e]), fun e => z3 (by rw [e])⟩ ok
theorem td_other {a b c : Nat} (ha : a < 4) (hb : b < 4) (hc : c < 4) : ∃ r : Nat, r < 4 ∧ r ≠ a ∧ r ≠ b ∧ r ≠ c ∧ ∀ post : Int32 → Prop, post (nI r) → wpL_other post () (nI a) (nI b) (nI c) := by
  obtain ⟨r, _, h2, hw⟩ := td_o5 ha hb hc 4 3 (Nat.le_refl 4)
  have ex : ∃ s, s < 4 ∧ s ≠ a ∧ s ≠ b ∧ s ≠ c := by
    by_cases z0 : 0 ≠ a ∧ 0 ≠ b ∧ 0 ≠ c
    · exact ⟨0, by omega, z0⟩
    · by_cases z1 : 1 ≠ a ∧ 1 ≠ b ∧ 1 ≠ c
      · exact ⟨1, by omega, z1⟩
      · by_cases z2 : 2 ≠ a ∧ 2 ≠ b ∧ 2 ≠ c
        · exact ⟨2, by omega, z2⟩
        · exact ⟨3, by omega, by omega, by omega, by omega⟩
  obtain ⟨r1, r2, r3, r4⟩ := h2 ex
  exact ⟨r, r1, r2, r3, r4, hw⟩
theorem td_inLength {post : Int32 → Prop} {s : Nat} (hs : s < 4) (hp : post (a1 s)) : wpX_inLength post (q0, q1, q2, q3, q4, q5, q6, q7, q8, q9, a1, a2, a3, a4, a5, a6, a7, a8, a9) (nI s) := by
  unfold wpX_inLength
  dsimp only
  refine td_slot hs (br_f (by decide) ?_)
  rw [nI_clamp (show s < 2 ^ 31 by omega)]
  exact ⟨vp_in_nI (by omega) (by omega), hp⟩
theorem td_type1 {post : Int32 → St1 → Prop} {n c : Nat} (hc : c ≤ 9) (hn : n < 40) (hp : post (nI (n + 1)) (q0, (nI (n + 1)), q2, q3, q4, q5, q6, q7, q8, q9, a1, a2, a3, a4, a5, a6, a7, (upd a8 n (nI c)), a9)) : wpX_type post (q0, (nI n), q2, q3, q4, q5, q6, q7, q8, q9, a1, a2, a3, a4, a5, a6, a7, a8, a9) (nI c) := by
  unfold wpX_type
  dsimp only
  rw [nI_clamp (show n < 2 ^ 31 by omega)]
  exact br_f (nI_pos (by omega)) (br_t (nI_le (b := 9) hc (by omega)) (br_f (fun z => absurd ((nI_eq (a := n) (b := 40) (by omega) (by omega)).mp z) (by omega)) ⟨vp_in_nI (by omega) (by omega), nm_e (nm_r (nI_1 n) hp)⟩))
theorem td_f13 {p : Int32} {m : Nat} (hm : m ≤ 40) : ∀ (r i : Nat) (b8 : Nat → Int32), i + r = m → ∃ c8 : Nat → Int32, ∀ post : St1 → Prop, post (q0, (nI m), q2, q3, q4, q5, q6, q7, q8, q9, a1, a2, a3, a4, a5, a6, a7, c8, a9) → ∃ fu, wL_fit_13 post p (nI m) fu (nI i) q0 (nI i) q2 q3 q4 q5 q6 q7 q8 q9 a1 a2 a3 a4 a5 a6 a7 b8 a9 := by
  intro r
  induction r with
  | zero =>
    intro i b8 hi
    have hi' : i = m := hi
    subst hi'
    refine ⟨b8, fun post hp => ⟨1, br_c (fun _ => hp) (fun _ => br_t (nI_le (Nat.le_refl _) (by omega)) hp)⟩⟩
  | succ r ih =>
    intro i b8 hi
    obtain ⟨c, hc, ec⟩ := pk_andE (p >>> ((nI i &&& 15) &&& 31)) (m := 7) 3 (by decide)
    obtain ⟨c8, gw⟩ := ih (i + 1) (upd b8 i (nI c)) (by omega)
    refine ⟨c8, fun post hp => ?_⟩
    obtain ⟨fu, hfu⟩ := gw post hp
    refine ⟨fu + 1, br_f (nI_ge (b := 40) (by omega) (by omega)) (br_f (nI_ge (by omega) (by omega)) ?_)⟩
    rw [ec]
    exact td_type1 (by omega) (by omega) (nm_r (nI_1 i) hfu)
theorem td_fit {p : Int32} {s m : Nat} (hs : s < 4) (hm : m ≤ 40) (h1 : a1 s = nI m) : ∃ c8 : Nat → Int32, ∀ post : St1 → Prop, post (q0, (nI m), q2, q3, q4, q5, q6, q7, q8, q9, a1, a2, a3, a4, a5, a6, a7, c8, a9) → wpL_fit post (q0, q1, q2, q3, q4, q5, q6, q7, q8, q9, a1, a2, a3, a4, a5, a6, a7, a8, a9) (nI s) p := by
  obtain ⟨c8, gw⟩ := td_f13 (q0 := q0) (q2 := q2) (q3 := q3) (q4 := q4) (q5 := q5) (q6 := q6) (q7 := q7) (q8 := q8) (q9 := q9) (a1 := a1) (a2 := a2) (a3 := a3) (a4 := a4) (a5 := a5) (a6 := a6) (a7 := a7) (a9 := a9) (p := p) hm m 0 a8 (Nat.zero_add _)
  refine ⟨c8, fun post hp => ?_⟩
  unfold wpL_fit
  dsimp only
  refine td_inLength hs ?_
  rw [h1]
  exact gw post hp
end
end
section
/-! Part 12: one turn keeps the object good. -/
section
variable {q0 q1 q2 q3 q4 q5 q6 q7 q8 q9 : Int32} {a1 a2 a3 a4 a5 a6 a7 a8 a9 : Nat → Int32}
theorem td_joinG {x y t : Nat} (hx : x < 4) (hy : y < 4) (ht : t < 4) (hG : td_G q0 q1 a1 a2 a3 a4 a5 a6 a7) : td_OK (fun post => wpX_join post (q0, q1, q2, q3, q4, q5, q6, q7, q8, q9, a1, a2, a3, a4, a5, a6, a7, a8, a9) (nI x) (nI y) (nI t)) := by
  obtain ⟨Wa, hA⟩ := hG.1 x hx
  obtain ⟨Wb, hB⟩ := hG.1 y hy
  by_cases he : td_ou Wa = td_in Wb
  · obtain ⟨p2, p3, p4, p5, p6, p7, p8, p9, c1, c2, c3, c4, c5, c6, c7, k1, k2, kw⟩ := td_join (q0 := q0) (q1 := q1) (q2 := q2) (q3 := q3) (q4 := q4) (q5 := q5) (q6 := q6) (q7 := q7) (q8 := q8) (q9 := q9) (a8 := a8) (a9 := a9) hx hy ht hA hB he
    exact ⟨_, _, td_G_to hG k2 ht k1 hG.2.2, kw⟩
  · exact td_same (u := (q0, q1, q2, q3, q4, q5, q6, q7, q8, q9, a1, a2, a3, a4, a5, a6, a7, a8, a9)) hG (-3) (fun post hp => td_join_bad hx hy ht hA hB he hp)
theorem td_carryG {x y t : Nat} {p : Int32} (hx : x < 4) (hy : y < 4) (ht : t < 4) (hG : td_G q0 q1 a1 a2 a3 a4 a5 a6 a7) : td_OK (fun post => wpX_carry post (q0, q1, q2, q3, q4, q5, q6, q7, q8, q9, a1, a2, a3, a4, a5, a6, a7, a8, a9) (nI x) (nI y) p (nI t)) := by
  obtain ⟨Wa, hA⟩ := hG.1 x hx
  obtain ⟨Wb, hB⟩ := hG.1 y hy
  obtain ⟨f, hf⟩ : ∃ f : Bool, f = false ↔ p = 0 := by
    by_cases z : p = 0
    · exact ⟨false, fun _ => z, fun _ => rfl⟩
    · exact ⟨true, fun h => absurd h (by decide), fun h => absurd h z⟩
  by_cases he : td_in Wa = td_in Wb
  · by_cases ho : td_ou (td_fo [] (td_cr f Wa.reverse Wb.reverse)) ≤ 40
    · obtain ⟨p2, p3, p4, p5, p6, p7, p8, p9, c1, c2, c3, c4, c5, c6, c7, k1, k2, kw⟩ := td_carry (q0 := q0) (q1 := q1) (q2 := q2) (q3 := q3) (q4 := q4) (q5 := q5) (q6 := q6) (q7 := q7) (q8 := q8) (q9 := q9) (a8 := a8) (a9 := a9) hf hx hy ht hA hB he ho
      exact ⟨_, _, td_G_to hG k2 ht k1 hG.2.2, kw⟩
    · obtain ⟨p2, p3, p4, p5, p6, p7, p8, p9, c1, c2, c3, c4, c5, c6, c7, k2, kw⟩ := td_carry_full (q0 := q0) (q1 := q1) (q2 := q2) (q3 := q3) (q4 := q4) (q5 := q5) (q6 := q6) (q7 := q7) (q8 := q8) (q9 := q9) (a8 := a8) (a9 := a9) hf hx hy ht hA hB he ho
      exact ⟨_, _, td_G_to hG (fun e he _ => k2 e he) hx (td_SL_sd hA (k2 x (by omega))) hG.2.2, kw⟩
  · exact td_same (u := (q0, q1, q2, q3, q4, q5, q6, q7, q8, q9, a1, a2, a3, a4, a5, a6, a7, a8, a9)) hG (-3) (fun post hp => td_carry_bad hx hy ht hA hB he hp)
theorem td_applyG {s t : Nat} (hs : s < 4) (ht : t < 4) (hG : td_G q0 q1 a1 a2 a3 a4 a5 a6 a7) : td_OK (fun post => wpX_apply post (q0, q1, q2, q3, q4, q5, q6, q7, q8, q9, a1, a2, a3, a4, a5, a6, a7, a8, a9) (nI s) (nI t)) := by
  have hG0 := hG
  obtain ⟨W, hS⟩ := hG.1 s hs
  obtain ⟨_, _, n, hn, rfl⟩ := hG
  by_cases he : n = td_in W
  · obtain ⟨tx, t1, t2⟩ := td_text a8 n 0
    subst t1
    obtain ⟨c1, c2, c3, c4, c5, c6, c7, c8, c9, k1, k2, _, kw⟩ := td_apply (q0 := q0) (q2 := q2) (q3 := q3) (q4 := q4) (q5 := q5) (q6 := q6) (q7 := q7) (q8 := q8) (q9 := q9) (a9 := a9) hs ht hS t2 he.symm
    exact ⟨_, _, td_G_to hG0 k2 ht k1 ⟨td_ou W, hS.2.2.2.2, rfl⟩, kw⟩
  · exact td_same (u := (q0, (nI n), q2, q3, q4, q5, q6, q7, q8, q9, a1, a2, a3, a4, a5, a6, a7, a8, a9)) hG0 (-3) (fun post hp => td_apply_bad hs ht hS hn he hp)
theorem td_and (x : Int32) {m : Int32} (k : Nat) (hm : m.toBitVec.toNat = 2 ^ k - 1) : ∃ j : Nat, j < 2 ^ k ∧ x &&& m = nI j := pk_andE x k hm
/-- a turn ends, always in the same state, and that is a good one -/
theorem td_turn {p1 p2 : Int32} {m : Nat} (hm : m ≤ 15) (hG : td_G q0 q1 a1 a2 a3 a4 a5 a6 a7) : ∃ u : St1, td_Gu u ∧ ∀ post : St1 → Prop, post u → wpL_turn post (q0, q1, q2, q3, q4, q5, q6, q7, q8, q9, a1, a2, a3, a4, a5, a6, a7, a8, a9) p1 p2 (nI m) := by
  obtain ⟨o, ho, eo⟩ := td_and p1 (m := 15) 4 (by decide)
  have ne : ∀ k : Nat, k < 16 → o ≠ k → ¬ nI o = nI k := fun k hk h z => h ((nI_eq (by omega) (by omega)).mp z)
  by_cases z0 : o = 0
  · subst z0
    by_cases y0 : p2 &&& 7 = 0
    · obtain ⟨j, hj, ej⟩ := td_and (p2 >>> ((3 : Int32) &&& 31)) (m := 31) 5 (by decide)
      obtain ⟨r, u, hu, hw⟩ := td_begin (m := j) (q2 := q2) (q3 := q3) (q4 := q4) (q5 := q5) (q6 := q6) (q7 := q7) (q8 := q8) (q9 := q9) (a8 := a8) (a9 := a9) (by omega) hG
      refine ⟨u, hu, fun post hp => ?_⟩
      unfold wpL_turn
      dsimp only
      refine nm_r eo (br_t rfl (br_t y0 ?_))
      rw [ej]
      exact hw _ hp
    · obtain ⟨r, u, hu, hw⟩ := td_begin (m := m) (q2 := q2) (q3 := q3) (q4 := q4) (q5 := q5) (q6 := q6) (q7 := q7) (q8 := q8) (q9 := q9) (a8 := a8) (a9 := a9) (by omega) hG
      refine ⟨u, hu, fun post hp => ?_⟩
      unfold wpL_turn
      dsimp only
      exact nm_r eo (br_t rfl (br_f y0 (hw _ hp)))
  · by_cases z1 : o = 1
    · subst z1
      obtain ⟨j, hj, ej⟩ := td_and p2 (m := 3) 2 (by decide)
      have ej' : 1 + (p2 &&& 3) = nI (1 + j) := by rw [ej]; exact nI_add 1 j
      obtain ⟨r, u, hu, hw⟩ := td_keep (k := 1 + j) (q2 := q2) (q3 := q3) (q4 := q4) (q5 := q5) (q6 := q6) (q7 := q7) (q8 := q8) (q9 := q9) (a8 := a8) (a9 := a9) (by omega) (by omega) hG
      refine ⟨u, hu, fun post hp => ?_⟩
      unfold wpL_turn
      dsimp only
      rw [ej']
      exact nm_r eo (br_f (ne 0 (by omega) z0) (br_t rfl (hw _ hp)))
    · by_cases z2 : o = 2
      · subst z2
        obtain ⟨j, hj, ej⟩ := td_and p2 (m := 1) 1 (by decide)
        have ej' : 1 + (p2 &&& 1) = nI (1 + j) := by rw [ej]; exact nI_add 1 j
        obtain ⟨r, u, hu, hw⟩ := td_drop (k := 1 + j) (q2 := q2) (q3 := q3) (q4 := q4) (q5 := q5) (q6 := q6) (q7 := q7) (q8 := q8) (q9 := q9) (a8 := a8) (a9 := a9) (by omega) (by omega) hG
        refine ⟨u, hu, fun post hp => ?_⟩
        unfold wpL_turn
        dsimp only
        rw [ej']
        exact nm_r eo (br_f (ne 0 (by omega) z0) (br_f (ne 1 (by omega) z1) (br_t rfl (hw _ hp))))
      · have pre : ∀ (post : St1 → Prop) (A B : Prop), True := fun _ _ _ => trivial
        by_cases z6 : o < 6
        · obtain ⟨j, hj, ej⟩ := td_and p2 (m := 15) 4 (by decide)
          obtain ⟨r, u, hu, hw⟩ := td_add (c := j) (q2 := q2) (q3 := q3) (q4 := q4) (q5 := q5) (q6 := q6) (q7 := q7) (q8 := q8) (q9 := q9) (a8 := a8) (a9 := a9) (by omega) hG
          refine ⟨u, hu, fun post hp => ?_⟩
          unfold wpL_turn
          dsimp only
          rw [ej]
          exact nm_r eo (br_f (ne 0 (by omega) z0) (br_f (ne 1 (by omega) z1) (br_f (ne 2 (by omega) z2) (br_f (nI_ge (b := 6) z6 (by omega)) (hw _ hp)))))
        · have g6 : (6 : Int32) ≤ nI o := nI_le (a := 6) (by omega) (by omega)
          by_cases z9 : o < 9
          · obtain ⟨j, hj, ej⟩ := td_and p2 (m := 3) 2 (by decide)
            obtain ⟨r, u, hu, hw⟩ := td_finish (s := j) (q2 := q2) (q3 := q3) (q4 := q4) (q5 := q5) (q6 := q6) (q7 := q7) (q8 := q8) (q9 := q9) (a8 := a8) (a9 := a9) (by omega) hG
            refine ⟨u, hu, fun post hp => ?_⟩
            unfold wpL_turn
            dsimp only
            rw [ej]
            exact nm_r eo (br_f (ne 0 (by omega) z0) (br_f (ne 1 (by omega) z1) (br_f (ne 2 (by omega) z2) (br_t g6 (br_f (nI_ge (b := 9) z9 (by omega)) (hw _ hp))))))
          · have g9 : (9 : Int32) ≤ nI o := nI_le (a := 9) (by omega) (by omega)
            obtain ⟨j, hj, ej⟩ := td_and p2 (m := 3) 2 (by decide)
            obtain ⟨j2, hj2, ej2⟩ := td_and (p2 >>> ((2 : Int32) &&& 31)) (m := 3) 2 (by decide)
            by_cases z9' : o = 9
            · subst z9'
              obtain ⟨j4, hj4, ej4⟩ := td_and (p2 >>> ((4 : Int32) &&& 31)) (m := 3) 2 (by decide)
              obtain ⟨r, u, hu, hw⟩ := td_joinG (x := j) (y := j2) (t := j4) (q2 := q2) (q3 := q3) (q4 := q4) (q5 := q5) (q6 := q6) (q7 := q7) (q8 := q8) (q9 := q9) (a8 := a8) (a9 := a9) (by omega) (by omega) (by omega) hG
              refine ⟨u, hu, fun post hp => ?_⟩
              unfold wpL_turn
              dsimp only
              rw [ej, ej2, ej4]
              exact nm_r eo (br_f (ne 0 (by omega) z0) (br_f (ne 1 (by omega) z1) (br_f (ne 2 (by omega) z2) (br_t g6 (br_t g9 (br_t rfl (hw _ hp)))))))
            · by_cases z10 : o = 10
              · subst z10
                obtain ⟨j5, hj5, ej5⟩ := td_and (p2 >>> ((5 : Int32) &&& 31)) (m := 3) 2 (by decide)
                obtain ⟨r, u, hu, hw⟩ := td_carryG (x := j) (y := j2) (t := j5) (p := (p2 >>> ((4 : Int32) &&& 31)) &&& 1) (q2 := q2) (q3 := q3) (q4 := q4) (q5 := q5) (q6 := q6) (q7 := q7) (q8 := q8) (q9 := q9) (a8 := a8) (a9 := a9) (by omega) (by omega) (by omega) hG
                refine ⟨u, hu, fun post hp => ?_⟩
                unfold wpL_turn
                dsimp only
                rw [ej, ej2, ej5]
                exact nm_r eo (br_f (ne 0 (by omega) z0) (br_f (ne 1 (by omega) z1) (br_f (ne 2 (by omega) z2) (br_t g6 (br_t g9 (br_f (ne 9 (by omega) z9') (br_t rfl (hw _ hp))))))))
              · by_cases z11 : o = 11
                · subst z11
                  obtain ⟨r, u, hu, hw⟩ := td_applyG (s := j) (t := j2) (q2 := q2) (q3 := q3) (q4 := q4) (q5 := q5) (q6 := q6) (q7 := q7) (q8 := q8) (q9 := q9) (a8 := a8) (a9 := a9) (by omega) (by omega) hG
                  refine ⟨u, hu, fun post hp => ?_⟩
                  unfold wpL_turn
                  dsimp only
                  rw [ej, ej2]
                  exact nm_r eo (br_f (ne 0 (by omega) z0) (br_f (ne 1 (by omega) z1) (br_f (ne 2 (by omega) z2) (br_t g6 (br_t g9 (br_f (ne 9 (by omega) z9') (br_f (ne 10 (by omega) z10) (br_t rfl (hw _ hp)))))))))
                · obtain ⟨j7, hj7, ej7⟩ := td_and p2 (m := 7) 3 (by decide)
                  by_cases zc : o < 15 ∨ ¬ p2 &&& 7 = 0
                  · obtain ⟨r, u, hu, hw⟩ := td_type (c := j7) (q2 := q2) (q3 := q3) (q4 := q4) (q5 := q5) (q6 := q6) (q7 := q7) (q8 := q8) (q9 := q9) (a8 := a8) (a9 := a9) (by omega) hG
                    refine ⟨u, hu, fun post hp => ?_⟩
                    have h209 : wL_turn_209 post p2 q0 q1 q2 q3 q4 q5 q6 q7 q8 q9 a1 a2 a3 a4 a5 a6 a7 a8 a9 := by
                      unfold wL_turn_209
                      rw [ej7]
                      exact hw _ hp
                    unfold wpL_turn
                    dsimp only
                    refine nm_r eo (br_f (ne 0 (by omega) z0) (br_f (ne 1 (by omega) z1) (br_f (ne 2 (by omega) z2) (br_t g6 (br_t g9 (br_f (ne 9 (by omega) z9') (br_f (ne 10 (by omega) z10) (br_f (ne 11 (by omega) z11) ?_))))))))
                    rcases zc with zc | zc
                    · exact br_t (nI_lt (b := 15) zc (by omega)) h209
                    · exact br_c (fun _ => h209) (fun _ => br_f zc h209)
                  · have zo : ¬ o < 15 := fun h => zc (Or.inl h)
                    have zp : p2 &&& 7 = 0 := Decidable.byContradiction (fun h => zc (Or.inr h))
                    obtain ⟨u, hu, hw⟩ := td_clear (q2 := q2) (q3 := q3) (q4 := q4) (q5 := q5) (q6 := q6) (q7 := q7) (q8 := q8) (q9 := q9) (a8 := a8) (a9 := a9) hG
                    refine ⟨u, hu, fun post hp => ?_⟩
                    unfold wpL_turn
                    dsimp only
                    exact nm_r eo (br_f (ne 0 (by omega) z0) (br_f (ne 1 (by omega) z1) (br_f (ne 2 (by omega) z2) (br_t g6 (br_t g9 (br_f (ne 9 (by omega) z9') (br_f (ne 10 (by omega) z10) (br_f (ne 11 (by omega) z11) (br_f (nI_nlt (b := 15) (by omega) (by omega)) (br_t zp (hw _ hp)))))))))))
end
end
section
/-! Part 13: undone and meets. -/
section
variable {q0 q1 q2 q3 q4 q5 q6 q7 q8 q9 : Int32} {a1 a2 a3 a4 a5 a6 a7 a8 a9 : Nat → Int32}
theorem td_sg_two {a b : Nat → Int32} (l : List Int32) : ∀ {f g : Nat}, td_sg a f l → td_sg b g l → ∀ i, i < l.length → a (f + i) = b (g + i) := by
  induction l with
  | nil => intro f g _ _ i hi; exact absurd hi (Nat.not_lt_zero i)
  | cons c l ih =>
    intro f g h h' i hi
    cases i with
    | zero => rw [Nat.add_zero, Nat.add_zero, h.1, h'.1]
    | succ i =>
      have := ih h.2 h'.2 i (by simp only [List.length_cons] at hi; omega)
      rw [show f + (i + 1) = f + 1 + i by omega, show g + (i + 1) = g + 1 + i by omega]
      exact this
theorem td_at {post : Int32 → Prop} {n i : Nat} (hi : i < n) (hn : n ≤ 40) (hp : post (a8 i)) : wpX_at post (q0, (nI n), q2, q3, q4, q5, q6, q7, q8, q9, a1, a2, a3, a4, a5, a6, a7, a8, a9) (nI i) := by
  unfold wpX_at
  dsimp only
  rw [nI_clamp (show i < 2 ^ 31 by omega)]
  exact br_f (nI_pos (by omega)) (br_t (nI_lt hi (by omega)) ⟨vp_in_nI (by omega) (by omega), hp⟩)
theorem td_u51 {post : Int32 → St3 → Prop} {n : Nat} {b1 b2 b3 b4 b5 b6 b7 b8 b9 : Nat → Int32} (hn : n ≤ 40) (he : ∀ i, i < n → b8 i = a8 i) (hp : post 1 (q0, (nI n), q2, q3, q4, q5, q6, q7, q8, q9, b1, b2, b3, b4, b5, b6, b7, b8, b9, q0, (nI n), q2, q3, q4, q5, q6, q7, q8, q9, a1, a2, a3, a4, a5, a6, a7, a8, a9)) : ∀ r i : Nat, i + r = n → ∃ fu, wL_undone_51 post (nI n) q0 (nI n) q2 q3 q4 q5 q6 q7 q8 q9 b1 b2 b3 b4 b5 b6 b7 b8 b9 q0 (nI n) q2 q3 q4 q5 q6 q7 q8 q9 a1 a2 a3 a4 a5 a6 a7 a8 a9 fu (nI i) := by
  intro r
  induction r with
  | zero =>
    intro i hi
    exact ⟨1, br_c (fun _ => hp) (fun _ => br_t (nI_le (by omega) (by omega)) hp)⟩
  | succ r ih =>
    intro i hi
    obtain ⟨fu, hfu⟩ := ih (i + 1) (by omega)
    exact ⟨fu + 1, br_f (nI_ge (b := 40) (by omega) (by omega)) (br_f (nI_ge (by omega) (by omega)) (td_at (n := n) (by omega) hn (td_at (n := n) (by omega) hn (br_t (he i (by omega)) (nm_r (nI_1 i) hfu)))))⟩
theorem td_undone {s t : Nat} (hs : s < 4) (ht : t < 4) (hG : td_G q0 q1 a1 a2 a3 a4 a5 a6 a7) : ∃ (u1 : Int32) (c1 c2 c3 c4 c5 c6 c7 c8 c9 : Nat → Int32), ∀ post : Int32 → St3 → Prop, post 1 (q0, u1, q2, q3, q4, q5, q6, q7, q8, q9, c1, c2, c3, c4, c5, c6, c7, c8, c9, q0, q1, q2, q3, q4, q5, q6, q7, q8, q9, a1, a2, a3, a4, a5, a6, a7, a8, a9) → wpL_undone post (q0, q1, q2, q3, q4, q5, q6, q7, q8, q9, a1, a2, a3, a4, a5, a6, a7, a8, a9, q0, q1, q2, q3, q4, q5, q6, q7, q8, q9, a1, a2, a3, a4, a5, a6, a7, a8, a9) (nI s) (nI t) := by
  obtain ⟨W, hS⟩ := hG.1 s hs
  obtain ⟨_, _, n, hn, rfl⟩ := hG
  by_cases he : n = td_in W
  · obtain ⟨tx, t1, t2⟩ := td_text a8 n 0
    subst t1
    obtain ⟨c1, c2, c3, c4, c5, c6, c7, c8, c9, k1, k2, k3, kw⟩ := td_apply (q0 := q0) (q2 := q2) (q3 := q3) (q4 := q4) (q5 := q5) (q6 := q6) (q7 := q7) (q8 := q8) (q9 := q9) (a9 := a9) hs ht hS t2 he.symm
    by_cases st : s = t
    · refine ⟨nI (td_ou W), c1, c2, c3, c4, c5, c6, c7, c8, c9, fun post hp => ?_⟩
      unfold wpL_undone
      dsimp only
      exact kw _ (br_t (by rw [st]) hp)
    · have hin : td_in W.reverse = tx.length := by rw [td_in_rev]; exact he.symm
      have cnt := td_n_ap W.reverse tx hin
      rw [td_in_rev, td_ou_rev] at cnt
      have ti : td_in (td_fo [] (td_iv W.reverse tx)) = td_ou W := by
        rw [td_in_fo, cnt.2.1]; exact Nat.zero_add _
      have to : td_ou (td_fo [] (td_iv W.reverse tx)) = tx.length := by
        rw [td_ou_fo, cnt.2.2, ← he]; exact Nat.zero_add _
      obtain ⟨d1, d2, d3, d4, d5, d6, d7, d8, d9, m1, m2, m3, mw⟩ := td_apply (q0 := q0) (q2 := q2) (q3 := q3) (q4 := q4) (q5 := q5) (q6 := q6) (q7 := q7) (q8 := q8) (q9 := q9) (a9 := c9) ht hs k1 k3 (by rw [ti, cnt.1])
      rw [td_undo W.reverse tx hin] at m3
      rw [to, cnt.1] at mw
      refine ⟨nI tx.length, d1, d2, d3, d4, d5, d6, d7, d8, d9, fun post hp => ?_⟩
      unfold wpL_undone
      dsimp only
      have ho := hS.2.2.2.2
      refine kw _ (br_f (fun z => st ((nI_eq (by omega) (by omega)).mp z)) (br_t (nI_pos' (by omega)) (mw _ ?_)))
      refine br_t rfl (br_t rfl ?_)
      exact td_u51 hn (fun i hi => by
        have := td_sg_two _ m3 t2 i hi
        rw [Nat.zero_add] at this
        exact this) hp _ 0 (Nat.zero_add _)
  · refine ⟨nI n, a1, a2, a3, a4, a5, a6, a7, a8, a9, fun post hp => ?_⟩
    unfold wpL_undone
    dsimp only
    exact td_apply_bad hs ht hS hn he (br_c (fun _ => hp) (fun _ => br_f (by decide) hp))
theorem td_ou_tp {x y : List td_Op} (h : td_in x = td_in y) : td_fo [] (td_jn y (td_fo [] (td_cr false x y)).reverse) = td_fo [] (td_jn x (td_fo [] (td_cr true y x)).reverse) ∧ td_ou (td_fo [] (td_cr false x y)) = td_ou (td_fo [] (td_cr true y x)) := by
  have e := td_tp _ x y [] (Nat.le_refl _) h
  refine ⟨by rw [td_jn_nf, td_jn_nf, e], ?_⟩
  have n1 := td_n_cr false _ x y (Nat.le_refl _) h
  have n2 := td_n_cr true _ y x (Nat.le_refl _) h.symm
  have j1 := td_n_jn _ y (td_cr false x y) (Nat.le_refl _) n1.1.symm
  have j2 := td_n_jn _ x (td_cr true y x) (Nat.le_refl _) n2.1.symm
  have o := congrArg td_ou e
  rw [td_ou_fo, td_ou_fo, j1.2, j2.2] at o
  rw [td_ou_fo, td_ou_fo]
  exact o
theorem td_meets {x y : Nat} (hx : x < 4) (hy : y < 4) (hG : td_G q0 q1 a1 a2 a3 a4 a5 a6 a7) {post : Int32 → St1 → Prop} (hp : ∀ u, post 1 u) : wpL_meets post (q0, q1, q2, q3, q4, q5, q6, q7, q8, q9, a1, a2, a3, a4, a5, a6, a7, a8, a9) (nI x) (nI y) := by
  obtain ⟨Wa, hA⟩ := hG.1 x hx
  obtain ⟨Wb, hB⟩ := hG.1 y hy
  unfold wpL_meets
  dsimp only
  refine td_inLength hx (td_inLength hy ?_)
  have hA4 := hA.2.2.2
  have hB4 := hB.2.2.2
  by_cases he : td_in Wa = td_in Wb
  · refine br_t (by rw [hA.1, hB.1, he]) ?_
    obtain ⟨u, u1, u2, u3, u4, uw⟩ := td_other hx hy hx
    obtain ⟨v, v1, v2, v3, v4, vw⟩ := td_other hx hy u1
    refine uw _ (vw _ ?_)
    have hr : td_in Wa.reverse = td_in Wb.reverse := by rw [td_in_rev, td_in_rev]; exact he
    obtain ⟨tp, to⟩ := td_ou_tp hr
    have f0 : (false : Bool) = false ↔ (0 : Int32) = 0 := ⟨fun _ => rfl, fun _ => rfl⟩
    have f1 : (true : Bool) = false ↔ (1 : Int32) = 0 := ⟨fun h => absurd h (by decide), fun h => absurd h (by decide)⟩
    by_cases ho : td_ou (td_fo [] (td_cr false Wa.reverse Wb.reverse)) ≤ 40
    · obtain ⟨p2, p3, p4, p5, p6, p7, p8, p9, c1, c2, c3, c4, c5, c6, c7, k1, k2, kw⟩ := td_carry (q0 := q0) (q1 := q1) (q2 := q2) (q3 := q3) (q4 := q4) (q5 := q5) (q6 := q6) (q7 := q7) (q8 := q8) (q9 := q9) (a8 := a8) (a9 := a9) f0 hx hy u1 hA hB he ho
      refine kw _ ?_
      dsimp only
      have hA1 := td_SL_sd hA (k2 x (by omega) (by omega))
      have hB1 := td_SL_sd hB (k2 y (by omega) (by omega))
      obtain ⟨r2, r3, r4, r5, r6, r7, r8, r9, d1, d2, d3, d4, d5, d6, d7, l1, l2, lw⟩ := td_carry (q0 := q0) (q1 := q1) (q2 := p2) (q3 := p3) (q4 := p4) (q5 := p5) (q6 := p6) (q7 := p7) (q8 := p8) (q9 := p9) (a8 := a8) (a9 := a9) f1 hy hx v1 hB1 hA1 he.symm (by omega)
      refine lw _ ?_
      dsimp only
      have hA2 := td_SL_sd hA1 (l2 x (by omega) (by omega))
      have hB2 := td_SL_sd hB1 (l2 y (by omega) (by omega))
      have hU2 := td_SL_sd k1 (l2 u (by omega) (by omega))
      refine br_f (nI_pos (by omega)) (br_t (nI_pos' (by omega)) ?_)
      obtain ⟨s2, s3, s4, s5, s6, s7, s8, s9, e1, e2, e3, e4, e5, e6, e7, m1, m2, mw⟩ := td_join (q0 := q0) (q1 := q1) (q2 := r2) (q3 := r3) (q4 := r4) (q5 := r5) (q6 := r6) (q7 := r7) (q8 := r8) (q9 := r9) (a8 := a8) (a9 := a9) hy u1 u1 hB2 hU2 (td_cr_n he).1.symm
      refine mw _ ?_
      dsimp only
      have hA3 := td_SL_sd hA2 (m2 x (by omega) (by omega))
      have hV3 := td_SL_sd l1 (m2 v (by omega) (by omega))
      obtain ⟨t2, t3, t4, t5, t6, t7, t8, t9, g1, g2, g3, g4, g5, g6, g7, n1, n2, nw⟩ := td_join (q0 := q0) (q1 := q1) (q2 := s2) (q3 := s3) (q4 := s4) (q5 := s5) (q6 := s6) (q7 := s7) (q8 := s8) (q9 := s9) (a8 := a8) (a9 := a9) hx v1 v1 hA3 hV3 (td_cr_n he.symm).1.symm
      refine nw _ ?_
      dsimp only
      have hU4 := td_SL_sd m1 (n2 u (by omega) (by omega))
      rw [← tp] at n1
      rw [← tp]
      have o40 := m1.2.2.2.2
      refine br_f (nI_pos (by omega)) (br_t rfl (td_sameOK u1 v1 hU4 n1 (br_f (by decide) (hp _))))
    · obtain ⟨p2, p3, p4, p5, p6, p7, p8, p9, c1, c2, c3, c4, c5, c6, c7, k2, kw⟩ := td_carry_full (q0 := q0) (q1 := q1) (q2 := q2) (q3 := q3) (q4 := q4) (q5 := q5) (q6 := q6) (q7 := q7) (q8 := q8) (q9 := q9) (a8 := a8) (a9 := a9) f0 hx hy u1 hA hB he ho
      refine kw _ ?_
      dsimp only
      have hA1 := td_SL_sd hA (k2 x (by omega))
      have hB1 := td_SL_sd hB (k2 y (by omega))
      obtain ⟨r2, r3, r4, r5, r6, r7, r8, r9, d1, d2, d3, d4, d5, d6, d7, l2, lw⟩ := td_carry_full (q0 := q0) (q1 := q1) (q2 := p2) (q3 := p3) (q4 := p4) (q5 := p5) (q6 := p6) (q7 := p7) (q8 := p8) (q9 := p9) (a8 := a8) (a9 := a9) f1 hy hx v1 hB1 hA1 he.symm (by omega)
      refine lw _ ?_
      dsimp only
      exact br_t (by decide) (br_t rfl (hp _))
  · exact br_f (by rw [hA.1, hB.1]; exact fun z => he ((nI_eq (by omega) (by omega)).mp z)) (hp _)
end
end
section
/-! Part 14: the law. -/
section
variable {q0 q1 q2 q3 q4 q5 q6 q7 q8 q9 : Int32} {a1 a2 a3 a4 a5 a6 a7 a8 a9 : Nat → Int32}
theorem td_init {post : St1 → Prop} (hp : post (q0, q1, q2, q3, q4, q5, q6, q7, q8, q9, (fun _ => 0), (fun _ => 0), (fun _ => 0), (fun _ => 0), (fun _ => 0), (fun _ => 0), (fun _ => 0), (fun _ => 0), (fun _ => 0))) : wpX_init post 9 1240 (q0, q1, q2, q3, q4, q5, q6, q7, q8, q9) := by
  unfold wpX_init
  dsimp only
  exact ⟨by omega, by omega, by omega, by omega, by omega, by omega, by omega, by omega, by omega, by omega, by omega, by omega, by omega, by omega, by omega, by omega, by omega, by omega, hp⟩
theorem td_G0 : td_G 0 0 (fun _ => 0) (fun _ => 0) (fun _ => 0) (fun _ => 0) (fun _ => 0) (fun _ => 0) (fun _ => 0) :=
  ⟨fun e _ => ⟨[], rfl, ⟨rfl, rfl, rfl, trivial, trivial⟩, trivial, Nat.zero_le _, Nat.zero_le _⟩, ⟨[], 0, rfl, Nat.zero_le _, rfl, Nat.le_refl _, Nat.zero_le _, trivial, ⟨rfl, rfl, rfl, trivial, trivial⟩⟩, 0, Nat.zero_le _, rfl⟩
theorem td_cell {post : Int32 → Prop} {L k : Nat} {xs : Nat → Int32} (hL : L ≤ 260) (hk : k ≤ 260) (hp : ∀ r, post r) : wpL_cell post L xs () (nI k) := by
  unfold wpL_cell
  exact pk_le L k (fun _ => hp _) (fun z => ⟨vp_in_nI z (by omega), hp _⟩)
theorem td_118 {L : Nat} {xs : Nat → Int32} {pick : Int32} {s t kc ks : Nat} (hs : s < 4) (ht : t < 4) (hG : td_G q0 q1 a1 a2 a3 a4 a5 a6 a7) : wL_law_118 (fun r => r = 1) L xs pick (nI s) (nI t) kc ks q0 q1 q2 q3 q4 q5 q6 q7 q8 q9 a1 a2 a3 a4 a5 a6 a7 a8 a9 q0 q1 q2 q3 q4 q5 q6 q7 q8 q9 a1 a2 a3 a4 a5 a6 a7 a8 a9 := by
  obtain ⟨u1, c1, c2, c3, c4, c5, c6, c7, c8, c9, hw⟩ := td_undone (q2 := q2) (q3 := q3) (q4 := q4) (q5 := q5) (q6 := q6) (q7 := q7) (q8 := q8) (q9 := q9) (a8 := a8) (a9 := a9) hs ht hG
  obtain ⟨x, hx, ex⟩ := td_and (pick >>> ((5 : Int32) &&& 31)) (m := 3) 2 (by decide)
  obtain ⟨y, hy, ey⟩ := td_and (pick >>> ((7 : Int32) &&& 31)) (m := 3) 2 (by decide)
  unfold wL_law_118
  rw [ex, ey]
  exact hw _ (br_f (by decide) (td_meets (by omega) (by omega) hG (fun u => br_f (by decide) rfl)))
theorem td_loop {L m : Nat} {xs : Nat → Int32} {pick : Int32} {kc ks : Nat} (hL : L ≤ 260) (hm : m ≤ 15) : ∀ (r k : Nat) (u : St1), td_Gu u → L ≤ k + r → k ≤ 262 → ∃ fu, match u with
    | (q0, q1, q2, q3, q4, q5, q6, q7, q8, q9, a1, a2, a3, a4, a5, a6, a7, a8, a9) => wL_law_35 (fun r => r = 1) L xs (nI m) pick kc ks fu (nI k) q0 q1 q2 q3 q4 q5 q6 q7 q8 q9 a1 a2 a3 a4 a5 a6 a7 a8 a9 q0 q1 q2 q3 q4 q5 q6 q7 q8 q9 a1 a2 a3 a4 a5 a6 a7 a8 a9 := by
  have exit : ∀ (k : Nat) (u : St1), td_Gu u → L ≤ k + 1 → k ≤ 262 → ∃ fu, match u with
    | (q0, q1, q2, q3, q4, q5, q6, q7, q8, q9, a1, a2, a3, a4, a5, a6, a7, a8, a9) => wL_law_35 (fun r => r = 1) L xs (nI m) pick kc ks fu (nI k) q0 q1 q2 q3 q4 q5 q6 q7 q8 q9 a1 a2 a3 a4 a5 a6 a7 a8 a9 q0 q1 q2 q3 q4 q5 q6 q7 q8 q9 a1 a2 a3 a4 a5 a6 a7 a8 a9 := by
    intro k u hu h1 h2
    obtain ⟨q0, q1, q2, q3, q4, q5, q6, q7, q8, q9, a1, a2, a3, a4, a5, a6, a7, a8, a9⟩ := u
    have hG : td_G q0 q1 a1 a2 a3 a4 a5 a6 a7 := hu
    refine ⟨1, ?_⟩
    show wL_law_35 (fun r => r = 1) L xs (nI m) pick kc ks (0 + 1) (nI k) q0 q1 q2 q3 q4 q5 q6 q7 q8 q9 a1 a2 a3 a4 a5 a6 a7 a8 a9 q0 q1 q2 q3 q4 q5 q6 q7 q8 q9 a1 a2 a3 a4 a5 a6 a7 a8 a9
    obtain ⟨s, hs, es⟩ := td_and pick (m := 3) 2 (by decide)
    obtain ⟨t, ht, et⟩ := td_and (pick >>> ((2 : Int32) &&& 31)) (m := 3) 2 (by decide)
    refine br_t (by rw [nI_1]; exact nI_le h1 (by omega)) (nm_r es (nm_r et (br_c (fun _ => ?_) (fun _ => td_118 (by omega) (by omega) hG))))
    obtain ⟨W, hS⟩ := hG.1 s (by omega)
    obtain ⟨c8, fw⟩ := td_fit (q0 := q0) (q1 := q1) (q2 := q2) (q3 := q3) (q4 := q4) (q5 := q5) (q6 := q6) (q7 := q7) (q8 := q8) (q9 := q9) (a1 := a1) (a2 := a2) (a3 := a3) (a4 := a4) (a5 := a5) (a6 := a6) (a7 := a7) (a8 := a8) (a9 := a9) (p := pick) (s := s) (by omega) hS.2.2.2.1 hS.1
    exact fw _ (fw _ (td_118 (by omega) (by omega) ⟨hG.1, hG.2.1, td_in W, hS.2.2.2.1, rfl⟩))
  intro r
  induction r with
  | zero =>
    intro k u hu h1 h2
    exact exit k u hu (by omega) h2
  | succ r ih =>
    intro k u hu h1 h2
    by_cases h : L ≤ k + 1
    · exact exit k u hu h h2
    · obtain ⟨q0, q1, q2, q3, q4, q5, q6, q7, q8, q9, a1, a2, a3, a4, a5, a6, a7, a8, a9⟩ := u
      have hG : td_G q0 q1 a1 a2 a3 a4 a5 a6 a7 := hu
      obtain ⟨u, hu', hw⟩ := td_turn (p1 := xs k) (p2 := xs (k + 1)) (q2 := q2) (q3 := q3) (q4 := q4) (q5 := q5) (q6 := q6) (q7 := q7) (q8 := q8) (q9 := q9) (a8 := a8) (a9 := a9) hm hG
      obtain ⟨fu, hfu⟩ := ih (k + 2) u hu' (by omega) (by omega)
      refine ⟨fu + 1, ?_⟩
      show wL_law_35 (fun r => r = 1) L xs (nI m) pick kc ks (fu + 1) (nI k) q0 q1 q2 q3 q4 q5 q6 q7 q8 q9 a1 a2 a3 a4 a5 a6 a7 a8 a9 q0 q1 q2 q3 q4 q5 q6 q7 q8 q9 a1 a2 a3 a4 a5 a6 a7 a8 a9
      refine br_f (by rw [nI_1]; exact nI_ge (by omega) (by omega)) ?_
      rw [nI_1, nI_clamp (show k < 2 ^ 31 by omega), nI_clamp (show k + 1 < 2 ^ 31 by omega)]
      have v1 : vp_in (nI k) L := vp_in_nI (by omega) (by omega)
      have v2 : vp_in (nI (k + 1)) L := vp_in_nI (by omega) (by omega)
      obtain ⟨p0, p1, p2, p3, p4, p5, p6, p7, p8, p9, b1, b2, b3, b4, b5, b6, b7, b8, b9⟩ := u
      exact ⟨v1, v2, hw _ ⟨v1, v2, hw _ (nm_r (nI_add k 2) hfu)⟩⟩
end
theorem i_vc (xs : Nat → Int32) (L : Nat) (hL : L ≤ 260) : wpL_law (fun r => r = 1) L xs := by
  refine ⟨9, 1240, by omega, by omega, td_init ⟨by omega, by omega, 9, 1240, by omega, by omega, td_init (td_cell (k := 0) hL (by omega) (fun r0 => ?_))⟩⟩
  obtain ⟨m, hm, em⟩ := td_and r0 (m := 15) 4 (by decide)
  refine nm_r em (td_cell (k := 1) hL (by omega) (fun r1 => ?_))
  exact td_loop (m := m) hL (by omega) L 2 (0, 0, 0, 0, 0, 0, 0, 0, 0, 0, fun _ => 0, fun _ => 0, fun _ => 0, fun _ => 0, fun _ => 0, fun _ => 0, fun _ => 0, fun _ => 0, fun _ => 0) td_G0 (by omega) (by omega)
end
