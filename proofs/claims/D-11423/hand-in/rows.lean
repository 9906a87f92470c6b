section
/-- an array as a list -/
def ps_ar (l : List Int32) : Nat → Int32 := fun j => l.getD j 0
/-- the object's state, its arrays as lists -/
abbrev ps_S : Type := Int32 × Int32 × List Int32 × List Int32 × List Int32 × List Int32 × List Int32 × List Int32
/-- a run that ends, its answer as P says -/
def ps_ok {α : Type} (o : Option α) (P : α → Prop) : Prop := ∃ a, o = some a ∧ P a
theorem ps_some {α : Type} {a : α} {P : α → Prop} (h : ps_ok (some a) P) : P a := by
  obtain ⟨b, e, hb⟩ := h
  rw [Option.some.inj e]
  exact hb
theorem ps_none {α : Type} {P : α → Prop} {X : Prop} (h : ps_ok none P) : X := by
  obtain ⟨b, e, _⟩ := h
  exact absurd e (by intro z; cases z)
theorem ps_bind {α β : Type} {o : Option α} {f : α → Option β} {P : β → Prop} (h : ps_ok (o.bind f) P) : ps_ok o (fun a => ps_ok (f a) P) := by
  obtain ⟨b, e, hb⟩ := h
  cases o with
  | none => exact absurd e (by intro z; cases z)
  | some a => exact ⟨a, rfl, b, e, hb⟩
theorem ps_if {α : Type} {c : Prop} [Decidable c] {A B : Option α} {P : α → Prop} {X Y : Prop} (h : ps_ok (if c then A else B) P) (hA : ps_ok A P → X) (hB : ps_ok B P → Y) : (c → X) ∧ (¬ c → Y) :=
  ⟨fun z => hA (by rw [if_pos z] at h; exact h), fun z => hB (by rw [if_neg z] at h; exact h)⟩
theorem ps_ifv {β : Type} {c : Prop} [Decidable c] {a b : β} {post : β → Prop} {X Y : Prop} (h : post (if c then a else b)) (hA : post a → X) (hB : post b → Y) : (c → X) ∧ (¬ c → Y) :=
  ⟨fun z => hA (by rw [if_pos z] at h; exact h), fun z => hB (by rw [if_neg z] at h; exact h)⟩
def ps_in {α : Type} (i : Int32) (n : Nat) (A : Option α) : Option α := if i < 0 ∨ n ≤ i.toNatClampNeg then none else A
theorem ps_inp {α : Type} {i : Int32} {n : Nat} {A : Option α} {P : α → Prop} {X : Prop} (h : ps_ok (ps_in i n A) P) (hA : vp_in i n → ps_ok A P → X) : vp_in i n ∧ X := by
  unfold ps_in at h
  by_cases z : i < 0 ∨ n ≤ i.toNatClampNeg
  · rw [if_pos z] at h
    exact ps_none h
  · rw [if_neg z] at h
    exact ⟨z, hA z h⟩
def ps_st {α : Type} (l : List Int32) (i : Int32) (v : Int32) (A : List Int32 → Option α) : Option α := if i.toNatClampNeg < l.length then A (l.set i.toNatClampNeg v) else none
theorem ps_upd (l : List Int32) (k : Nat) (v : Int32) (h : k < l.length) : upd (ps_ar l) k v = ps_ar (l.set k v) := by
  funext j
  unfold upd ps_ar
  rw [List.getD_eq_getElem?_getD, List.getD_eq_getElem?_getD, List.getElem?_set]
  by_cases e : j = k
  · subst e
    simp [h]
  · rw [if_neg e, if_neg (fun z => e z.symm)]
theorem ps_stp {α : Type} {l : List Int32} {i v : Int32} {A : List Int32 → Option α} {P : α → Prop} {X : (Nat → Int32) → Prop} (h : ps_ok (ps_st l i v A) P) (hA : ∀ b, ps_ok (A b) P → X (ps_ar b)) : ∀ a : Nat → Int32, a = upd (ps_ar l) i.toNatClampNeg v → X a := by
  intro a ea
  unfold ps_st at h
  by_cases z : i.toNatClampNeg < l.length
  · rw [if_pos z] at h
    rw [ea, ps_upd l _ v z]
    exact hA _ h
  · rw [if_neg z] at h
    exact ps_none h
theorem ps_ar0 (n : Nat) : ps_ar (List.replicate n 0) = fun _ => 0 := by
  funext j
  unfold ps_ar
  rw [List.getD_eq_getElem?_getD, List.getElem?_replicate]
  by_cases e : j < n
  · rw [if_pos e]; rfl
  · rw [if_neg e]; rfl

/-! the runs -/
def ps_var (x : Int32) : Int32 := if x < 0 then 0 else if 8 ≤ x then 0 else 1
def ps_stok (a b c : Int32) : Int32 := if a < 0 then 0 else if 3 < a then 0 else if ps_var b = 0 then 0 else if ps_var c = 0 then 0 else 1
def ps_bit (a x : Int32) : Int32 := if ((a >>> (x &&& 31)) &&& 1) = 0 then 0 else 1
def ps_has (p x : Int32) : Int32 := if x < 0 then 0 else if 12 ≤ x then 0 else if ((p >>> (x &&& 31)) &&& 1) = 0 then 0 else 1
def ps_write (p kn : Int32) (l1 l2 l3 l4 l5 l6 : List Int32) (x0 x1 x2 x3 : Int32) : Option ps_S :=
  ps_in x0 13 (ps_st l1 x0 x1.toInt8.toInt32 fun b1 => ps_st l2 x0 x2.toInt8.toInt32 fun b2 => ps_st l3 x0 x3.toInt8.toInt32 fun b3 => some (p ||| ((1 : Int32) <<< (x0 &&& 31)), 0, b1, b2, b3, l4, l5, l6))
def ps_add14 (x1 x2 x3 : Int32) (p kn : Int32) (l1 l2 l3 l4 l5 l6 : List Int32) : Nat → Int32 → Option (Int32 × ps_S)
  | 0 => fun _ => none
  | n + 1 => fun x4 => if 12 ≤ x4 then some (-2, p, kn, l1, l2, l3, l4, l5, l6) else if ps_has p x4 = 0 then (ps_write p kn l1 l2 l3 l4 l5 l6 x4 x1 x2 x3).bind (fun t => some (x4, t)) else ps_add14 x1 x2 x3 p kn l1 l2 l3 l4 l5 l6 n (x4 + 1)
def ps_add (p kn : Int32) (l1 l2 l3 l4 l5 l6 : List Int32) (x0 x1 x2 : Int32) : Option (Int32 × ps_S) :=
  if ps_stok x0 x1 x2 = 0 then some (-1, p, kn, l1, l2, l3, l4, l5, l6) else ps_add14 x0 x1 x2 p kn l1 l2 l3 l4 l5 l6 13 0
def ps_wait2 (l5 : List Int32) : Nat → Int32 → Option Int32
  | 0 => fun _ => none
  | n + 1 => fun x => if 8 ≤ x then some (-1) else ps_in x 8 (if ps_ar l5 x.toNatClampNeg = 0 then ps_wait2 l5 n (x + 1) else some x)
def ps_point (p kn : Int32) (l1 l2 l3 l4 l5 l6 : List Int32) (x0 x1 : Int32) : Option ps_S :=
  ps_in x0 8 (ps_st l4 x0 ((ps_ar l4 x0.toNatClampNeg ||| (x1 &&& (ps_ar l4 x0.toNatClampNeg ^^^ (-1)))).toInt16.toInt32) fun b4 => ps_st l5 x0 ((ps_ar l5 x0.toNatClampNeg ||| (x1 &&& (ps_ar l4 x0.toNatClampNeg ^^^ (-1)))).toInt16.toInt32) fun b5 => some (p, kn, l1, l2, l3, b4, b5, l6))
def ps_link (p kn : Int32) (l1 l2 l3 l4 l5 l6 : List Int32) (x0 x1 : Int32) : Option ps_S :=
  ps_in x0 8 (if ps_bit (ps_ar l6 x0.toNatClampNeg) x1 = 0 then ps_st l6 x0 ((ps_ar l6 x0.toNatClampNeg ||| ((1 : Int32) <<< (x1 &&& 31))).toInt16.toInt32) fun b6 => ps_point p kn l1 l2 l3 l4 l5 b6 x1 (ps_ar l4 x0.toNatClampNeg) else some (p, kn, l1, l2, l3, l4, l5, l6))
def ps_f90 (x1 x3 x5 x6 : Int32) (p kn : Int32) (l1 l2 l3 l4 l5 l6 : List Int32) : Option ps_S :=
  if ps_bit x3 x6 = 0 then some (p, kn, l1, l2, l3, l4, l5, l6) else if x5 = 0 then some (p, kn, l1, l2, l3, l4, l5, l6) else ps_in x1 13 (ps_link p kn l1 l2 l3 l4 l5 l6 (ps_ar l3 x1.toNatClampNeg) x6)
def ps_f57 (x1 x3 x4 x5 : Int32) : Nat → Int32 → ps_S → Option ps_S
  | 0 => fun _ _ => none
  | n + 1 => fun x6 t => if 8 ≤ x6 then some t else
    (if ps_bit x3 x6 = 0 then some t else if x4 = 0 then some t else ps_in x1 13 (ps_link t.1 t.2.1 t.2.2.1 t.2.2.2.1 t.2.2.2.2.1 t.2.2.2.2.2.1 t.2.2.2.2.2.2.1 t.2.2.2.2.2.2.2 x6 (ps_ar t.2.2.2.1 x1.toNatClampNeg))).bind (fun v => (ps_f90 x1 x3 x5 x6 v.1 v.2.1 v.2.2.1 v.2.2.2.1 v.2.2.2.2.1 v.2.2.2.2.2.1 v.2.2.2.2.2.2.1 v.2.2.2.2.2.2.2).bind (fun w => ps_f57 x1 x3 x4 x5 n (x6 + 1) w))
def ps_f25 (x1 x2 x3 z0 : Int32) (p kn : Int32) (l1 l2 l3 l4 l5 l6 : List Int32) : Option ps_S :=
  ps_in x1 13 (if ps_ar l1 x1.toNatClampNeg = 3 then (if ps_ar l2 x1.toNatClampNeg = x2 then ps_f57 x1 x3 z0 1 9 0 (p, kn, l1, l2, l3, l4, l5, l6) else ps_f57 x1 x3 z0 0 9 0 (p, kn, l1, l2, l3, l4, l5, l6)) else ps_f57 x1 x3 z0 0 9 0 (p, kn, l1, l2, l3, l4, l5, l6))
def ps_follow (p kn : Int32) (l1 l2 l3 l4 l5 l6 : List Int32) (x0 x1 x2 : Int32) : Option ps_S :=
  ps_in x0 13 (if ps_ar l1 x0.toNatClampNeg = 2 then (if ps_ar l3 x0.toNatClampNeg = x1 then ps_f25 x0 x1 x2 1 p kn l1 l2 l3 l4 l5 l6 else ps_f25 x0 x1 x2 0 p kn l1 l2 l3 l4 l5 l6) else ps_f25 x0 x1 x2 0 p kn l1 l2 l3 l4 l5 l6)
def ps_p48 (x1 x2 : Int32) : Nat → Int32 → ps_S → Option ps_S
  | 0 => fun _ _ => none
  | n + 1 => fun x3 t => if 8 ≤ x3 then some t else
    ps_in x1 8 (if ps_bit (ps_ar t.2.2.2.2.2.2.2 x1.toNatClampNeg) x3 = 0 then ps_p48 x1 x2 n (x3 + 1) t else (ps_point t.1 t.2.1 t.2.2.1 t.2.2.2.1 t.2.2.2.2.1 t.2.2.2.2.2.1 t.2.2.2.2.2.2.1 t.2.2.2.2.2.2.2 x3 x2).bind (fun v => ps_p48 x1 x2 n (x3 + 1) v))
def ps_p16 (x1 x2 : Int32) : Nat → Int32 → ps_S → Option ps_S
  | 0 => fun _ _ => none
  | n + 1 => fun x3 t => if 12 < x3 then ps_p48 x1 x2 9 0 t else
    if ((t.1 >>> (x3 &&& 31)) &&& 1) = 0 then ps_p16 x1 x2 n (x3 + 1) t else (ps_follow t.1 t.2.1 t.2.2.1 t.2.2.2.1 t.2.2.2.2.1 t.2.2.2.2.2.1 t.2.2.2.2.2.2.1 t.2.2.2.2.2.2.2 x3 x1 x2).bind (fun v => ps_p16 x1 x2 n (x3 + 1) v)
def ps_pass (p kn : Int32) (l1 l2 l3 l4 l5 l6 : List Int32) (x0 : Int32) : Option ps_S :=
  ps_in x0 8 (ps_st l5 x0 0 fun b5 => ps_p16 x0 (ps_ar l5 x0.toNatClampNeg) 14 0 (p, kn, l1, l2, l3, l4, b5, l6))
def ps_s142 : Nat → Int32 → ps_S → Option ps_S
  | 0 => fun _ _ => none
  | n + 1 => fun x1 t => if 65 ≤ x1 then some t else
    (ps_wait2 t.2.2.2.2.2.2.1 9 0).bind (fun r => if 0 ≤ r then (ps_pass t.1 t.2.1 t.2.2.1 t.2.2.2.1 t.2.2.2.2.1 t.2.2.2.2.2.1 t.2.2.2.2.2.2.1 t.2.2.2.2.2.2.2 r).bind (fun v => ps_s142 n (x1 + 1) v) else some t)
def ps_s97 (x1 : Int32) (p kn : Int32) (l1 l2 l3 l4 l5 l6 : List Int32) : Option ps_S :=
  if ((p >>> (x1 &&& 31)) &&& 1) = 0 then some (p, kn, l1, l2, l3, l4, l5, l6) else ps_in x1 13 (if ps_ar l1 x1.toNatClampNeg = 1 then ps_link p kn l1 l2 l3 l4 l5 l6 (ps_ar l3 x1.toNatClampNeg) (ps_ar l2 x1.toNatClampNeg) else some (p, kn, l1, l2, l3, l4, l5, l6))
def ps_s50 : Nat → Int32 → ps_S → Option ps_S
  | 0 => fun _ _ => none
  | n + 1 => fun x1 t => if 12 < x1 then ps_s142 66 0 t else
    if ((t.1 >>> (x1 &&& 31)) &&& 1) = 0 then (ps_s97 x1 t.1 t.2.1 t.2.2.1 t.2.2.2.1 t.2.2.2.2.1 t.2.2.2.2.2.1 t.2.2.2.2.2.2.1 t.2.2.2.2.2.2.2).bind (fun v => ps_s50 n (x1 + 1) v) else
    ps_in x1 13 (if ps_ar t.2.2.1 x1.toNatClampNeg = 0 then (ps_point t.1 t.2.1 t.2.2.1 t.2.2.2.1 t.2.2.2.2.1 t.2.2.2.2.2.1 t.2.2.2.2.2.2.1 t.2.2.2.2.2.2.2 (ps_ar t.2.2.2.1 x1.toNatClampNeg) ((1 : Int32) <<< ((ps_ar t.2.2.2.2.1 x1.toNatClampNeg) &&& 31))).bind (fun v => ps_s50 n (x1 + 1) v) else (ps_s97 x1 t.1 t.2.1 t.2.2.1 t.2.2.2.1 t.2.2.2.2.1 t.2.2.2.2.2.1 t.2.2.2.2.2.2.1 t.2.2.2.2.2.2.2).bind (fun v => ps_s50 n (x1 + 1) v))
def ps_s15 (p kn : Int32) (l1 l2 l3 : List Int32) : Nat → Int32 → List Int32 → List Int32 → List Int32 → Option ps_S
  | 0 => fun _ _ _ _ => none
  | n + 1 => fun x1 l4 l5 l6 => if 8 ≤ x1 then ps_s50 14 0 (p, kn, l1, l2, l3, l4, l5, l6) else
    ps_in x1 8 (ps_st l4 x1 0 fun b4 => ps_st l5 x1 0 fun b5 => ps_st l6 x1 0 fun b6 => ps_s15 p kn l1 l2 l3 n (x1 + 1) b4 b5 b6)
def ps_solve (p kn : Int32) (l1 l2 l3 l4 l5 l6 : List Int32) : Option ps_S := if kn = 0 then ps_s15 p 1 l1 l2 l3 9 0 l4 l5 l6 else some (p, kn, l1, l2, l3, l4, l5, l6)
def ps_pt (p kn : Int32) (l1 l2 l3 l4 l5 l6 : List Int32) (x0 : Int32) : Option (Int32 × ps_S) :=
  if ps_var x0 = 0 then some (0, p, kn, l1, l2, l3, l4, l5, l6) else (ps_solve p kn l1 l2 l3 l4 l5 l6).bind (fun t => ps_in x0 8 (some (ps_ar t.2.2.2.2.2.1 x0.toNatClampNeg, t.1, t.2.1, t.2.2.1, t.2.2.2.1, t.2.2.2.2.1, t.2.2.2.2.2.1, t.2.2.2.2.2.2.1, t.2.2.2.2.2.2.2)))
def ps_t16 (l4 : List Int32) (x2 : Int32) : Nat → Int32 → Int32 → Option Int32
  | 0 => fun _ _ => none
  | n + 1 => fun x1 x3 => if 8 ≤ x3 then some x1 else ps_in x2 8 (ps_t16 l4 x2 n (x1 + ((ps_ar l4 x2.toNatClampNeg >>> (x3 &&& 31)) &&& 1)) (x3 + 1))
def ps_t8 (l4 : List Int32) : Nat → Int32 → Int32 → Option Int32
  | 0 => fun _ _ => none
  | n + 1 => fun x1 x2 => if 8 ≤ x2 then some x1 else (ps_t16 l4 x2 9 x1 0).bind (fun y => ps_t8 l4 n y (x2 + 1))
def ps_total (p kn : Int32) (l1 l2 l3 l4 l5 l6 : List Int32) : Option (Int32 × ps_S) :=
  (ps_solve p kn l1 l2 l3 l4 l5 l6).bind (fun t => (ps_t8 t.2.2.2.2.2.1 9 0 0).bind (fun r => some (r, t.1, t.2.1, t.2.2.1, t.2.2.2.1, t.2.2.2.2.1, t.2.2.2.2.2.1, t.2.2.2.2.2.2.1, t.2.2.2.2.2.2.2)))
def ps_r31 (l4 : List Int32) : Nat → Int32 → Int32 → Option Int32
  | 0 => fun _ _ => none
  | n + 1 => fun x2 x4 => if 8 ≤ x4 then some x2 else if ps_bit x2 x4 = 0 then ps_r31 l4 n (x2 ||| 0) (x4 + 1) else ps_in x4 8 (ps_r31 l4 n (x2 ||| ps_ar l4 x4.toNatClampNeg) (x4 + 1))
def ps_r22 (l4 : List Int32) : Nat → Int32 → Int32 → Option Int32
  | 0 => fun _ _ => none
  | n + 1 => fun x2 x3 => if 8 ≤ x3 then some x2 else (ps_r31 l4 9 x2 0).bind (fun y => ps_r22 l4 n y (x3 + 1))
def ps_reach (p kn : Int32) (l1 l2 l3 l4 l5 l6 : List Int32) (x0 : Int32) : Option (Int32 × ps_S) :=
  if ps_var x0 = 0 then some (0, p, kn, l1, l2, l3, l4, l5, l6) else (ps_solve p kn l1 l2 l3 l4 l5 l6).bind (fun t => ps_in x0 8 ((ps_r22 t.2.2.2.2.2.1 9 (ps_ar t.2.2.2.2.2.1 x0.toNatClampNeg) 0).bind (fun r => some (r, t.1, t.2.1, t.2.2.1, t.2.2.2.1, t.2.2.2.2.1, t.2.2.2.2.2.1, t.2.2.2.2.2.2.1, t.2.2.2.2.2.2.2))))
def ps_alias (p kn : Int32) (l1 l2 l3 l4 l5 l6 : List Int32) (x0 x1 : Int32) : Option (Int32 × ps_S) :=
  if ps_var x0 = 0 then some (0, p, kn, l1, l2, l3, l4, l5, l6) else if ps_var x1 = 0 then some (0, p, kn, l1, l2, l3, l4, l5, l6) else if x0 = x1 then some (0, p, kn, l1, l2, l3, l4, l5, l6) else
  (ps_solve p kn l1 l2 l3 l4 l5 l6).bind (fun t => ps_in x0 8 (ps_in x1 8 (if (ps_ar t.2.2.2.2.2.1 x0.toNatClampNeg &&& ps_ar t.2.2.2.2.2.1 x1.toNatClampNeg) = 0 then some (0, t.1, t.2.1, t.2.2.1, t.2.2.2.1, t.2.2.2.2.1, t.2.2.2.2.2.1, t.2.2.2.2.2.2.1, t.2.2.2.2.2.2.2) else some (1, t.1, t.2.1, t.2.2.1, t.2.2.2.1, t.2.2.2.2.1, t.2.2.2.2.2.1, t.2.2.2.2.2.2.1, t.2.2.2.2.2.2.2))))
def ps_pb17 (l4 : List Int32) (x1 : Int32) : Nat → Int32 → Int32 → Option Int32
  | 0 => fun _ _ => none
  | n + 1 => fun x2 x3 => if 8 ≤ x3 then some x2 else ps_in x3 8 (if ps_bit (ps_ar l4 x3.toNatClampNeg) x1 = 0 then ps_pb17 l4 x1 n (x2 ||| 0) (x3 + 1) else ps_pb17 l4 x1 n (x2 ||| ((1 : Int32) <<< (x3 &&& 31))) (x3 + 1))
def ps_pb (p kn : Int32) (l1 l2 l3 l4 l5 l6 : List Int32) (x0 : Int32) : Option (Int32 × ps_S) :=
  if ps_var x0 = 0 then some (0, p, kn, l1, l2, l3, l4, l5, l6) else (ps_solve p kn l1 l2 l3 l4 l5 l6).bind (fun t => (ps_pb17 t.2.2.2.2.2.1 x0 9 0 0).bind (fun r => some (r, t.1, t.2.1, t.2.2.1, t.2.2.2.1, t.2.2.2.2.1, t.2.2.2.2.2.1, t.2.2.2.2.2.2.1, t.2.2.2.2.2.2.2)))
def ps_red (p kn : Int32) (l1 l2 l3 l4 l5 l6 : List Int32) (x0 : Int32) : Option (Int32 × ps_S) :=
  if ps_has p x0 = 0 then some (0, p, kn, l1, l2, l3, l4, l5, l6) else (ps_total p kn l1 l2 l3 l4 l5 l6).bind (fun t =>
    (ps_total (t.2.1 &&& (((1 : Int32) <<< (x0 &&& 31)) ^^^ (-1))) 0 t.2.2.2.1 t.2.2.2.2.1 t.2.2.2.2.2.1 t.2.2.2.2.2.2.1 t.2.2.2.2.2.2.2.1 t.2.2.2.2.2.2.2.2).bind (fun w =>
      if t.1 = w.1 then some (1, w.2.1 ||| ((1 : Int32) <<< (x0 &&& 31)), 0, w.2.2.2) else some (0, w.2.1 ||| ((1 : Int32) <<< (x0 &&& 31)), 0, w.2.2.2)))
def ps_e224 (x16 z0 z1 : Int32) : Int32 := if z1 = z0 then (if x16 = 0 then 1 else 0) else 0
def ps_e173 (x7 x8 x9 x10 x12 x13 x14 x15 x16 z0 z1 : Int32) : Int32 :=
  if z1 = z0 then (if x12 = 3 then (if x13 = (((1 : Int32) <<< (x7 &&& 31)) ||| ((1 : Int32) <<< (x8 &&& 31))) then (if x14 = 0 then 0 else
    if x10 = 0 then ps_e224 x16 (((1 : Int32) <<< (x7 &&& 31)) ||| ((1 : Int32) <<< (x9 &&& 31))) x15 else ps_e224 x16 ((1 : Int32) <<< (x7 &&& 31)) x15) else 0) else 0) else 0
def ps_e133 (x7 x8 x9 x10 x11 x12 x13 z0 z1 : Int32) (p kn : Int32) (l1 l2 l3 l4 l5 l6 : List Int32) : Option Int32 :=
  (ps_alias p kn l1 l2 l3 l4 l5 l6 z1 z0).bind (fun a => (ps_pb a.2.1 a.2.2.1 a.2.2.2.1 a.2.2.2.2.1 a.2.2.2.2.2.1 a.2.2.2.2.2.2.1 a.2.2.2.2.2.2.2.1 a.2.2.2.2.2.2.2.2 x8).bind (fun b =>
    (ps_red b.2.1 b.2.2.1 b.2.2.2.1 b.2.2.2.2.1 b.2.2.2.2.2.1 b.2.2.2.2.2.2.1 b.2.2.2.2.2.2.2.1 b.2.2.2.2.2.2.2.2 2).bind (fun c =>
      if x10 = 0 then some (ps_e173 x7 x8 x9 x10 x12 x13 a.1 b.1 c.1 ((1 : Int32) <<< (x8 &&& 31)) x11) else some (ps_e173 x7 x8 x9 x10 x12 x13 a.1 b.1 c.1 ((1 : Int32) <<< (x7 &&& 31)) x11))))
def ps_e84 (x6 x7 x8 x9 x10 z0 : Int32) (p kn : Int32) (l1 l2 l3 l4 l5 l6 : List Int32) : Option Int32 :=
  (ps_add p kn l1 l2 l3 l4 l5 l6 z0 x9 x6).bind (fun a => (ps_pt a.2.1 a.2.2.1 a.2.2.2.1 a.2.2.2.2.1 a.2.2.2.2.2.1 a.2.2.2.2.2.2.1 a.2.2.2.2.2.2.2.1 a.2.2.2.2.2.2.2.2 x9).bind (fun b =>
    (ps_total b.2.1 b.2.2.1 b.2.2.2.1 b.2.2.2.2.1 b.2.2.2.2.2.1 b.2.2.2.2.2.2.1 b.2.2.2.2.2.2.2.1 b.2.2.2.2.2.2.2.2).bind (fun c =>
      (ps_reach c.2.1 c.2.2.1 c.2.2.2.1 c.2.2.2.2.1 c.2.2.2.2.2.1 c.2.2.2.2.2.2.1 c.2.2.2.2.2.2.2.1 c.2.2.2.2.2.2.2.2 x6).bind (fun d =>
        if x10 = 0 then ps_e133 x7 x8 x9 x10 b.1 c.1 d.1 x7 x9 d.2.1 d.2.2.1 d.2.2.2.1 d.2.2.2.2.1 d.2.2.2.2.2.1 d.2.2.2.2.2.2.1 d.2.2.2.2.2.2.2.1 d.2.2.2.2.2.2.2.2
        else ps_e133 x7 x8 x9 x10 b.1 c.1 d.1 x6 x9 d.2.1 d.2.2.1 d.2.2.2.1 d.2.2.2.2.1 d.2.2.2.2.2.1 d.2.2.2.2.2.2.1 d.2.2.2.2.2.2.2.1 d.2.2.2.2.2.2.2.2))))
def ps_e70 (x6 x7 x8 x9 z0 : Int32) (p kn : Int32) (l1 l2 l3 l4 l5 l6 : List Int32) : Option Int32 := if z0 = 0 then ps_e84 x6 x7 x8 x9 z0 2 p kn l1 l2 l3 l4 l5 l6 else ps_e84 x6 x7 x8 x9 z0 1 p kn l1 l2 l3 l4 l5 l6
/-- the whole law, over its five cut cells -/
def ps_law (x6 x7 x8 x9 q : Int32) : Option Int32 :=
  (ps_add 0 0 (List.replicate 13 0) (List.replicate 13 0) (List.replicate 13 0) (List.replicate 8 0) (List.replicate 8 0) (List.replicate 8 0) 0 x6 x7).bind (fun a =>
    (ps_add a.2.1 a.2.2.1 a.2.2.2.1 a.2.2.2.2.1 a.2.2.2.2.2.1 a.2.2.2.2.2.2.1 a.2.2.2.2.2.2.2.1 a.2.2.2.2.2.2.2.2 0 x7 x8).bind (fun b =>
      if q = 0 then ps_e70 x6 x7 x8 x9 1 b.2.1 b.2.2.1 b.2.2.2.1 b.2.2.2.2.1 b.2.2.2.2.2.1 b.2.2.2.2.2.2.1 b.2.2.2.2.2.2.2.1 b.2.2.2.2.2.2.2.2
      else ps_e70 x6 x7 x8 x9 0 b.2.1 b.2.2.1 b.2.2.2.1 b.2.2.2.2.1 b.2.2.2.2.2.1 b.2.2.2.2.2.2.1 b.2.2.2.2.2.2.2.1 b.2.2.2.2.2.2.2.2))
end
section
theorem ps_var_s {post : Int32 → Prop} {x : Int32} (h : post (ps_var x)) : wpX_isVariable post () x :=
  ps_ifv (post := post) h (fun h => h) (fun h => ps_ifv (post := post) h (fun h => h) (fun h => h))
theorem ps_stok_s {post : Int32 → Prop} {a b c : Int32} (h : post (ps_stok a b c)) : wpX_statementOk post () a b c :=
  ps_ifv (post := post) h (fun h => h) (fun h => ps_ifv (post := post) h (fun h => h) (fun h => ps_var_s (ps_ifv (post := post) h (fun h => h) (fun h => ps_var_s (ps_ifv (post := post) h (fun h => h) (fun h => h))))))
theorem ps_bit_s {post : Int32 → Prop} {a x : Int32} (h : post (ps_bit a x)) : wpX_in post () a x :=
  ps_ifv (post := post) h (fun h => h) (fun h => h)
theorem ps_has_s {post : Int32 → Prop} {p kn : Int32} {l1 l2 l3 l4 l5 l6 : List Int32} {x : Int32} (h : post (ps_has p x)) : wpX_has post (p, kn, ps_ar l1, ps_ar l2, ps_ar l3, ps_ar l4, ps_ar l5, ps_ar l6) x :=
  ps_ifv (post := post) h (fun h => h) (fun h => ps_ifv (post := post) h (fun h => h) (fun h => ps_ifv (post := post) h (fun h => h) (fun h => h)))
theorem ps_write_s {post : St2 → Prop} {Q : ps_S → Prop} (hQ : ∀ (p kn : Int32) (l1 l2 l3 l4 l5 l6 : List Int32), Q (p, kn, l1, l2, l3, l4, l5, l6) → post (p, kn, ps_ar l1, ps_ar l2, ps_ar l3, ps_ar l4, ps_ar l5, ps_ar l6)) {p kn : Int32} {l1 l2 l3 l4 l5 l6 : List Int32} {x0 x1 x2 x3 : Int32} (h : ps_ok (ps_write p kn l1 l2 l3 l4 l5 l6 x0 x1 x2 x3) Q) : wpX_write post (p, kn, ps_ar l1, ps_ar l2, ps_ar l3, ps_ar l4, ps_ar l5, ps_ar l6) x0 x1 x2 x3 :=
  ps_inp h (fun hv h => ps_stp h (fun b1 h => ⟨hv, ps_stp h (fun b2 h => ⟨hv, ps_stp h (fun b3 h => nm_e (hQ _ _ _ _ _ _ _ _ (ps_some h :)))⟩)⟩))
theorem ps_add14_s {post : Int32 → St2 → Prop} {Q : Int32 × ps_S → Prop} (hQ : ∀ (r : Int32) (p kn : Int32) (l1 l2 l3 l4 l5 l6 : List Int32), Q (r, p, kn, l1, l2, l3, l4, l5, l6) → post r (p, kn, ps_ar l1, ps_ar l2, ps_ar l3, ps_ar l4, ps_ar l5, ps_ar l6)) (x1 x2 x3 : Int32) (p kn : Int32) (l1 l2 l3 l4 l5 l6 : List Int32) (n : Nat) : ∀ x4 : Int32, ps_ok (ps_add14 x1 x2 x3 p kn l1 l2 l3 l4 l5 l6 n x4) Q → wX_add_14 post x1 x2 x3 p kn (ps_ar l1) (ps_ar l2) (ps_ar l3) (ps_ar l4) (ps_ar l5) (ps_ar l6) n x4 := by
  induction n with
  | zero => intro x4 h; exact ps_none h
  | succ n ih =>
    intro x4 h
    exact ps_if h (fun h => hQ _ _ _ _ _ _ _ _ _ (ps_some h :)) (fun h => ps_has_s (ps_if h (fun h => ps_write_s (fun p kn l1 l2 l3 l4 l5 l6 h => by exact hQ _ _ _ _ _ _ _ _ _ (ps_some h :)) (ps_bind h)) (fun h => nm_e (ih _ h))))
theorem ps_add_s {post : Int32 → St2 → Prop} {Q : Int32 × ps_S → Prop} (hQ : ∀ (r : Int32) (p kn : Int32) (l1 l2 l3 l4 l5 l6 : List Int32), Q (r, p, kn, l1, l2, l3, l4, l5, l6) → post r (p, kn, ps_ar l1, ps_ar l2, ps_ar l3, ps_ar l4, ps_ar l5, ps_ar l6)) {p kn : Int32} {l1 l2 l3 l4 l5 l6 : List Int32} {x0 x1 x2 : Int32} (h : ps_ok (ps_add p kn l1 l2 l3 l4 l5 l6 x0 x1 x2) Q) : wpX_add post (p, kn, ps_ar l1, ps_ar l2, ps_ar l3, ps_ar l4, ps_ar l5, ps_ar l6) x0 x1 x2 := by
  unfold wpX_add
  exact ps_stok_s (ps_if h (fun h => hQ _ _ _ _ _ _ _ _ _ (ps_some h :)) (fun h => ⟨13, ps_add14_s hQ _ _ _ _ _ _ _ _ _ _ _ 13 0 h⟩))
theorem ps_wait2_s {post : Int32 → Prop} {Q : Int32 → Prop} (hQ : ∀ r, Q r → post r) (p kn : Int32) (l1 l2 l3 l4 l5 l6 : List Int32) (n : Nat) : ∀ x : Int32, ps_ok (ps_wait2 l5 n x) Q → wX_waiting_2 post p kn (ps_ar l1) (ps_ar l2) (ps_ar l3) (ps_ar l4) (ps_ar l5) (ps_ar l6) n x := by
  induction n with
  | zero => intro x h; exact ps_none h
  | succ n ih =>
    intro x h
    exact ps_if h (fun h => hQ _ (ps_some h :)) (fun h => ps_inp h (fun _ h => ps_if h (fun h => nm_e (ih _ h)) (fun h => hQ _ (ps_some h :))))
theorem ps_point_s {post : St2 → Prop} {Q : ps_S → Prop} (hQ : ∀ (p kn : Int32) (l1 l2 l3 l4 l5 l6 : List Int32), Q (p, kn, l1, l2, l3, l4, l5, l6) → post (p, kn, ps_ar l1, ps_ar l2, ps_ar l3, ps_ar l4, ps_ar l5, ps_ar l6)) {p kn : Int32} {l1 l2 l3 l4 l5 l6 : List Int32} {x0 x1 : Int32} (h : ps_ok (ps_point p kn l1 l2 l3 l4 l5 l6 x0 x1) Q) : wpX_point post (p, kn, ps_ar l1, ps_ar l2, ps_ar l3, ps_ar l4, ps_ar l5, ps_ar l6) x0 x1 :=
  ps_inp h (fun hv h => nm_e ⟨hv, hv, ps_stp h (fun b4 h => ⟨hv, hv, ps_stp h (fun b5 h => hQ _ _ _ _ _ _ _ _ (ps_some h :))⟩)⟩)
theorem ps_link_s {post : St2 → Prop} {Q : ps_S → Prop} (hQ : ∀ (p kn : Int32) (l1 l2 l3 l4 l5 l6 : List Int32), Q (p, kn, l1, l2, l3, l4, l5, l6) → post (p, kn, ps_ar l1, ps_ar l2, ps_ar l3, ps_ar l4, ps_ar l5, ps_ar l6)) {p kn : Int32} {l1 l2 l3 l4 l5 l6 : List Int32} {x0 x1 : Int32} (h : ps_ok (ps_link p kn l1 l2 l3 l4 l5 l6 x0 x1) Q) : wpX_link post (p, kn, ps_ar l1, ps_ar l2, ps_ar l3, ps_ar l4, ps_ar l5, ps_ar l6) x0 x1 :=
  ps_inp h (fun hv h => ps_bit_s (ps_if h (fun h => ⟨hv, hv, ps_stp h (fun b6 h => ⟨hv, ps_point_s hQ h⟩)⟩) (fun h => hQ _ _ _ _ _ _ _ _ (ps_some h :))))
theorem ps_f90_s {post : St2 → Prop} {J : Int32 → Int32 → Int32 → (Nat → Int32) → (Nat → Int32) → (Nat → Int32) → (Nat → Int32) → (Nat → Int32) → (Nat → Int32) → Prop} {Q : ps_S → Prop} {x1 x3 x4 x5 x6 : Int32} (hQ : ∀ (p kn : Int32) (l1 l2 l3 l4 l5 l6 : List Int32), Q (p, kn, l1, l2, l3, l4, l5, l6) → J (x6 + 1) p kn (ps_ar l1) (ps_ar l2) (ps_ar l3) (ps_ar l4) (ps_ar l5) (ps_ar l6)) {p kn : Int32} {l1 l2 l3 l4 l5 l6 : List Int32} (h : ps_ok (ps_f90 x1 x3 x5 x6 p kn l1 l2 l3 l4 l5 l6) Q) : wX_follow_90 post J x1 x3 x4 x5 x6 p kn (ps_ar l1) (ps_ar l2) (ps_ar l3) (ps_ar l4) (ps_ar l5) (ps_ar l6) :=
  ps_bit_s (ps_if h (fun h => nm_e (hQ _ _ _ _ _ _ _ _ (ps_some h :))) (fun h => ps_if h (fun h => nm_e (hQ _ _ _ _ _ _ _ _ (ps_some h :))) (fun h => ps_inp h (fun _ h => ps_link_s (fun p kn l1 l2 l3 l4 l5 l6 h => by intro y ey; subst ey; exact (hQ _ _ _ _ _ _ _ _ h)) h))))
theorem ps_f57_s {post : St2 → Prop} {Q : ps_S → Prop} (hQ : ∀ (p kn : Int32) (l1 l2 l3 l4 l5 l6 : List Int32), Q (p, kn, l1, l2, l3, l4, l5, l6) → post (p, kn, ps_ar l1, ps_ar l2, ps_ar l3, ps_ar l4, ps_ar l5, ps_ar l6)) (x1 x3 x4 x5 : Int32) (n : Nat) : ∀ (x6 : Int32) (p kn : Int32) (l1 l2 l3 l4 l5 l6 : List Int32), ps_ok (ps_f57 x1 x3 x4 x5 n x6 (p, kn, l1, l2, l3, l4, l5, l6)) Q → wX_follow_57 post x1 x3 x4 x5 n x6 p kn (ps_ar l1) (ps_ar l2) (ps_ar l3) (ps_ar l4) (ps_ar l5) (ps_ar l6) := by
  induction n with
  | zero => intro x6 p kn l1 l2 l3 l4 l5 l6 h; exact ps_none h
  | succ n ih =>
    intro x6 p kn l1 l2 l3 l4 l5 l6 h
    have K : ∀ (p kn : Int32) (l1 l2 l3 l4 l5 l6 : List Int32), ps_ok ((ps_f90 x1 x3 x5 x6 p kn l1 l2 l3 l4 l5 l6).bind (fun w => ps_f57 x1 x3 x4 x5 n (x6 + 1) w)) Q → wX_follow_90 post (wX_follow_57 post x1 x3 x4 x5 n) x1 x3 x4 x5 x6 p kn (ps_ar l1) (ps_ar l2) (ps_ar l3) (ps_ar l4) (ps_ar l5) (ps_ar l6) :=
      fun p kn l1 l2 l3 l4 l5 l6 h => ps_f90_s (fun p kn l1 l2 l3 l4 l5 l6 h => ih _ _ _ _ _ _ _ _ _ h) (ps_bind h)
    refine ps_if h (fun h => hQ _ _ _ _ _ _ _ _ (ps_some h :)) (fun h => ?_)
    have h := ps_bind h
    exact ps_bit_s (ps_if h (fun h => K _ _ _ _ _ _ _ _ (ps_some h :)) (fun h => ps_if h (fun h => K _ _ _ _ _ _ _ _ (ps_some h :)) (fun h => ps_inp h (fun _ h => ps_link_s (fun p kn l1 l2 l3 l4 l5 l6 h => K _ _ _ _ _ _ _ _ h) h))))
theorem ps_f25_s {post : St2 → Prop} {Q : ps_S → Prop} (hQ : ∀ (p kn : Int32) (l1 l2 l3 l4 l5 l6 : List Int32), Q (p, kn, l1, l2, l3, l4, l5, l6) → post (p, kn, ps_ar l1, ps_ar l2, ps_ar l3, ps_ar l4, ps_ar l5, ps_ar l6)) {p kn : Int32} {l1 l2 l3 l4 l5 l6 : List Int32} {x1 x2 x3 z0 : Int32} (h : ps_ok (ps_f25 x1 x2 x3 z0 p kn l1 l2 l3 l4 l5 l6) Q) : wX_follow_25 post x1 x2 x3 z0 p kn (ps_ar l1) (ps_ar l2) (ps_ar l3) (ps_ar l4) (ps_ar l5) (ps_ar l6) :=
  ps_inp h (fun hv h => ps_if h (fun h => ⟨hv, ps_if h (fun h => ⟨9, ps_f57_s hQ _ _ _ _ 9 0 _ _ _ _ _ _ _ _ h⟩) (fun h => ⟨9, ps_f57_s hQ _ _ _ _ 9 0 _ _ _ _ _ _ _ _ h⟩)⟩) (fun h => ⟨9, ps_f57_s hQ _ _ _ _ 9 0 _ _ _ _ _ _ _ _ h⟩))
theorem ps_follow_s {post : St2 → Prop} {Q : ps_S → Prop} (hQ : ∀ (p kn : Int32) (l1 l2 l3 l4 l5 l6 : List Int32), Q (p, kn, l1, l2, l3, l4, l5, l6) → post (p, kn, ps_ar l1, ps_ar l2, ps_ar l3, ps_ar l4, ps_ar l5, ps_ar l6)) {p kn : Int32} {l1 l2 l3 l4 l5 l6 : List Int32} {x0 x1 x2 : Int32} (h : ps_ok (ps_follow p kn l1 l2 l3 l4 l5 l6 x0 x1 x2) Q) : wpX_follow post (p, kn, ps_ar l1, ps_ar l2, ps_ar l3, ps_ar l4, ps_ar l5, ps_ar l6) x0 x1 x2 :=
  ps_inp h (fun hv h => ps_if h (fun h => ⟨hv, ps_if h (fun h => ps_f25_s hQ h) (fun h => ps_f25_s hQ h)⟩) (fun h => ps_f25_s hQ h))
theorem ps_p48_s {post : St2 → Prop} {Q : ps_S → Prop} (hQ : ∀ (p kn : Int32) (l1 l2 l3 l4 l5 l6 : List Int32), Q (p, kn, l1, l2, l3, l4, l5, l6) → post (p, kn, ps_ar l1, ps_ar l2, ps_ar l3, ps_ar l4, ps_ar l5, ps_ar l6)) (x1 x2 : Int32) (n : Nat) : ∀ (x3 : Int32) (p kn : Int32) (l1 l2 l3 l4 l5 l6 : List Int32), ps_ok (ps_p48 x1 x2 n x3 (p, kn, l1, l2, l3, l4, l5, l6)) Q → wX_passOn_48 post x1 x2 n x3 p kn (ps_ar l1) (ps_ar l2) (ps_ar l3) (ps_ar l4) (ps_ar l5) (ps_ar l6) := by
  induction n with
  | zero => intro x3 p kn l1 l2 l3 l4 l5 l6 h; exact ps_none h
  | succ n ih =>
    intro x3 p kn l1 l2 l3 l4 l5 l6 h
    exact ps_if h (fun h => hQ _ _ _ _ _ _ _ _ (ps_some h :)) (fun h => ps_inp h (fun _ h => ps_bit_s (ps_if h (fun h => nm_e (ih _ _ _ _ _ _ _ _ _ h)) (fun h => ps_point_s (fun p kn l1 l2 l3 l4 l5 l6 h => by intro y ey; subst ey; exact (ih _ _ _ _ _ _ _ _ _ h)) (ps_bind h)))))
theorem ps_p16_s {post : St2 → Prop} {Q : ps_S → Prop} (hQ : ∀ (p kn : Int32) (l1 l2 l3 l4 l5 l6 : List Int32), Q (p, kn, l1, l2, l3, l4, l5, l6) → post (p, kn, ps_ar l1, ps_ar l2, ps_ar l3, ps_ar l4, ps_ar l5, ps_ar l6)) (x1 x2 : Int32) (n : Nat) : ∀ (x3 : Int32) (p kn : Int32) (l1 l2 l3 l4 l5 l6 : List Int32), ps_ok (ps_p16 x1 x2 n x3 (p, kn, l1, l2, l3, l4, l5, l6)) Q → wX_passOn_16 post x1 x2 n x3 p kn (ps_ar l1) (ps_ar l2) (ps_ar l3) (ps_ar l4) (ps_ar l5) (ps_ar l6) := by
  induction n with
  | zero => intro x3 p kn l1 l2 l3 l4 l5 l6 h; exact ps_none h
  | succ n ih =>
    intro x3 p kn l1 l2 l3 l4 l5 l6 h
    exact ps_if h (fun h => ⟨9, ps_p48_s hQ _ _ 9 0 _ _ _ _ _ _ _ _ h⟩) (fun h => ps_if h (fun h => nm_e (ih _ _ _ _ _ _ _ _ _ h)) (fun h => ps_follow_s (fun p kn l1 l2 l3 l4 l5 l6 h => by intro y ey; subst ey; exact (ih _ _ _ _ _ _ _ _ _ h)) (ps_bind h)))
theorem ps_pass_s {post : St2 → Prop} {Q : ps_S → Prop} (hQ : ∀ (p kn : Int32) (l1 l2 l3 l4 l5 l6 : List Int32), Q (p, kn, l1, l2, l3, l4, l5, l6) → post (p, kn, ps_ar l1, ps_ar l2, ps_ar l3, ps_ar l4, ps_ar l5, ps_ar l6)) {p kn : Int32} {l1 l2 l3 l4 l5 l6 : List Int32} {x0 : Int32} (h : ps_ok (ps_pass p kn l1 l2 l3 l4 l5 l6 x0) Q) : wpX_passOn post (p, kn, ps_ar l1, ps_ar l2, ps_ar l3, ps_ar l4, ps_ar l5, ps_ar l6) x0 :=
  ps_inp h (fun hv h => nm_e ⟨hv, ps_stp h (fun b5 h => ⟨14, ps_p16_s hQ _ _ 14 0 _ _ _ _ _ _ _ _ h⟩)⟩)
theorem ps_s142_s {post : St2 → Prop} {Q : ps_S → Prop} (hQ : ∀ (p kn : Int32) (l1 l2 l3 l4 l5 l6 : List Int32), Q (p, kn, l1, l2, l3, l4, l5, l6) → post (p, kn, ps_ar l1, ps_ar l2, ps_ar l3, ps_ar l4, ps_ar l5, ps_ar l6)) (n : Nat) : ∀ (x1 : Int32) (p kn : Int32) (l1 l2 l3 l4 l5 l6 : List Int32), ps_ok (ps_s142 n x1 (p, kn, l1, l2, l3, l4, l5, l6)) Q → wX_solve_142 post n x1 p kn (ps_ar l1) (ps_ar l2) (ps_ar l3) (ps_ar l4) (ps_ar l5) (ps_ar l6) := by
  induction n with
  | zero => intro x1 p kn l1 l2 l3 l4 l5 l6 h; exact ps_none h
  | succ n ih =>
    intro x1 p kn l1 l2 l3 l4 l5 l6 h
    exact ps_if h (fun h => hQ _ _ _ _ _ _ _ _ (ps_some h :)) (fun h => ⟨9, ps_wait2_s (fun r h => ps_if h (fun h => ps_pass_s (fun p kn l1 l2 l3 l4 l5 l6 h => by intro y ey; subst ey; exact (ih _ _ _ _ _ _ _ _ _ h)) (ps_bind h)) (fun h => hQ _ _ _ _ _ _ _ _ (ps_some h :))) _ _ _ _ _ _ _ _ 9 0 (ps_bind h)⟩)
theorem ps_s97_s {post : St2 → Prop} {J : Int32 → Int32 → Int32 → (Nat → Int32) → (Nat → Int32) → (Nat → Int32) → (Nat → Int32) → (Nat → Int32) → (Nat → Int32) → Prop} {Q : ps_S → Prop} {x1 : Int32} (hQ : ∀ (p kn : Int32) (l1 l2 l3 l4 l5 l6 : List Int32), Q (p, kn, l1, l2, l3, l4, l5, l6) → J (x1 + 1) p kn (ps_ar l1) (ps_ar l2) (ps_ar l3) (ps_ar l4) (ps_ar l5) (ps_ar l6)) {p kn : Int32} {l1 l2 l3 l4 l5 l6 : List Int32} (h : ps_ok (ps_s97 x1 p kn l1 l2 l3 l4 l5 l6) Q) : wX_solve_97 post J x1 p kn (ps_ar l1) (ps_ar l2) (ps_ar l3) (ps_ar l4) (ps_ar l5) (ps_ar l6) :=
  ps_if h (fun h => nm_e (hQ _ _ _ _ _ _ _ _ (ps_some h :))) (fun h => ps_inp h (fun hv h => ps_if h (fun h => ⟨hv, hv, ps_link_s (fun p kn l1 l2 l3 l4 l5 l6 h => by intro y ey; subst ey; exact (hQ _ _ _ _ _ _ _ _ h)) h⟩) (fun h => nm_e (hQ _ _ _ _ _ _ _ _ (ps_some h :)))))
theorem ps_s50_s {post : St2 → Prop} {Q : ps_S → Prop} (hQ : ∀ (p kn : Int32) (l1 l2 l3 l4 l5 l6 : List Int32), Q (p, kn, l1, l2, l3, l4, l5, l6) → post (p, kn, ps_ar l1, ps_ar l2, ps_ar l3, ps_ar l4, ps_ar l5, ps_ar l6)) (n : Nat) : ∀ (x1 : Int32) (p kn : Int32) (l1 l2 l3 l4 l5 l6 : List Int32), ps_ok (ps_s50 n x1 (p, kn, l1, l2, l3, l4, l5, l6)) Q → wX_solve_50 post n x1 p kn (ps_ar l1) (ps_ar l2) (ps_ar l3) (ps_ar l4) (ps_ar l5) (ps_ar l6) := by
  induction n with
  | zero => intro x1 p kn l1 l2 l3 l4 l5 l6 h; exact ps_none h
  | succ n ih =>
    intro x1 p kn l1 l2 l3 l4 l5 l6 h
    exact ps_if h (fun h => ⟨66, ps_s142_s hQ 66 0 _ _ _ _ _ _ _ _ h⟩) (fun h => ps_if h (fun h => ps_s97_s (fun p kn l1 l2 l3 l4 l5 l6 h => ih _ _ _ _ _ _ _ _ _ h) (ps_bind h)) (fun h => ps_inp h (fun hv h => ps_if h (fun h => ⟨hv, hv, ps_point_s (fun p kn l1 l2 l3 l4 l5 l6 h => by intro y ey; subst ey; exact (ih _ _ _ _ _ _ _ _ _ h)) (ps_bind h)⟩) (fun h => ps_s97_s (fun p kn l1 l2 l3 l4 l5 l6 h => ih _ _ _ _ _ _ _ _ _ h) (ps_bind h)))))
theorem ps_s15_s {post : St2 → Prop} {Q : ps_S → Prop} (hQ : ∀ (p kn : Int32) (l1 l2 l3 l4 l5 l6 : List Int32), Q (p, kn, l1, l2, l3, l4, l5, l6) → post (p, kn, ps_ar l1, ps_ar l2, ps_ar l3, ps_ar l4, ps_ar l5, ps_ar l6)) (p kn : Int32) (l1 l2 l3 : List Int32) (n : Nat) : ∀ (x1 : Int32) (l4 l5 l6 : List Int32), ps_ok (ps_s15 p kn l1 l2 l3 n x1 l4 l5 l6) Q → wX_solve_15 post p kn n x1 (ps_ar l1) (ps_ar l2) (ps_ar l3) (ps_ar l4) (ps_ar l5) (ps_ar l6) := by
  induction n with
  | zero => intro x1 l4 l5 l6 h; exact ps_none h
  | succ n ih =>
    intro x1 l4 l5 l6 h
    exact ps_if h (fun h => ⟨14, ps_s50_s hQ 14 0 _ _ _ _ _ _ _ _ h⟩) (fun h => ps_inp h (fun hv h => ps_stp h (fun b4 h => ⟨hv, ps_stp h (fun b5 h => ⟨hv, ps_stp h (fun b6 h => nm_e (ih _ _ _ _ h))⟩)⟩)))
theorem ps_solve_s {post : St2 → Prop} {Q : ps_S → Prop} (hQ : ∀ (p kn : Int32) (l1 l2 l3 l4 l5 l6 : List Int32), Q (p, kn, l1, l2, l3, l4, l5, l6) → post (p, kn, ps_ar l1, ps_ar l2, ps_ar l3, ps_ar l4, ps_ar l5, ps_ar l6)) {p kn : Int32} {l1 l2 l3 l4 l5 l6 : List Int32} (h : ps_ok (ps_solve p kn l1 l2 l3 l4 l5 l6) Q) : wpX_solve post (p, kn, ps_ar l1, ps_ar l2, ps_ar l3, ps_ar l4, ps_ar l5, ps_ar l6) :=
  ps_if h (fun h => ⟨9, ps_s15_s hQ _ _ _ _ _ 9 0 _ _ _ h⟩) (fun h => hQ _ _ _ _ _ _ _ _ (ps_some h :))
theorem ps_pt_s {post : Int32 → St2 → Prop} {Q : Int32 × ps_S → Prop} (hQ : ∀ (r : Int32) (p kn : Int32) (l1 l2 l3 l4 l5 l6 : List Int32), Q (r, p, kn, l1, l2, l3, l4, l5, l6) → post r (p, kn, ps_ar l1, ps_ar l2, ps_ar l3, ps_ar l4, ps_ar l5, ps_ar l6)) {p kn : Int32} {l1 l2 l3 l4 l5 l6 : List Int32} {x0 : Int32} (h : ps_ok (ps_pt p kn l1 l2 l3 l4 l5 l6 x0) Q) : wpX_pointsTo post (p, kn, ps_ar l1, ps_ar l2, ps_ar l3, ps_ar l4, ps_ar l5, ps_ar l6) x0 := by
  unfold wpX_pointsTo
  exact ps_var_s (ps_if h (fun h => hQ _ _ _ _ _ _ _ _ _ (ps_some h :)) (fun h => ps_solve_s (fun p kn l1 l2 l3 l4 l5 l6 h => ps_inp h (fun _ h => hQ _ _ _ _ _ _ _ _ _ (ps_some h :))) (ps_bind h)))
theorem ps_t16_s {post : Int32 → St2 → Prop} {J : Int32 → Int32 → Prop} {Q : Int32 → Prop} {x2 : Int32} (hQ : ∀ r, Q r → J r (x2 + 1)) (p kn : Int32) (l1 l2 l3 l4 l5 l6 : List Int32) (n : Nat) : ∀ x1 x3 : Int32, ps_ok (ps_t16 l4 x2 n x1 x3) Q → wX_total_16 post J x2 p kn (ps_ar l1) (ps_ar l2) (ps_ar l3) (ps_ar l4) (ps_ar l5) (ps_ar l6) n x1 x3 := by
  induction n with
  | zero => intro x1 x3 h; exact ps_none h
  | succ n ih =>
    intro x1 x3 h
    exact ps_if h (fun h => nm_e (hQ _ (ps_some h :))) (fun h => ps_inp h (fun _ h => nm_e (nm_e (ih _ _ h))))
theorem ps_t8_s {post : Int32 → St2 → Prop} {Q : Int32 → Prop} (p kn : Int32) (l1 l2 l3 l4 l5 l6 : List Int32) (hQ : ∀ r, Q r → post r (p, kn, ps_ar l1, ps_ar l2, ps_ar l3, ps_ar l4, ps_ar l5, ps_ar l6)) (n : Nat) : ∀ x1 x2 : Int32, ps_ok (ps_t8 l4 n x1 x2) Q → wX_total_8 post p kn (ps_ar l1) (ps_ar l2) (ps_ar l3) (ps_ar l4) (ps_ar l5) (ps_ar l6) n x1 x2 := by
  induction n with
  | zero => intro x1 x2 h; exact ps_none h
  | succ n ih =>
    intro x1 x2 h
    exact ps_if h (fun h => hQ _ (ps_some h :)) (fun h => ⟨9, ps_t16_s (fun r h => ih _ _ h) _ _ _ _ _ _ _ _ 9 _ 0 (ps_bind h)⟩)
theorem ps_total_s {post : Int32 → St2 → Prop} {Q : Int32 × ps_S → Prop} (hQ : ∀ (r : Int32) (p kn : Int32) (l1 l2 l3 l4 l5 l6 : List Int32), Q (r, p, kn, l1, l2, l3, l4, l5, l6) → post r (p, kn, ps_ar l1, ps_ar l2, ps_ar l3, ps_ar l4, ps_ar l5, ps_ar l6)) {p kn : Int32} {l1 l2 l3 l4 l5 l6 : List Int32} (h : ps_ok (ps_total p kn l1 l2 l3 l4 l5 l6) Q) : wpX_total post (p, kn, ps_ar l1, ps_ar l2, ps_ar l3, ps_ar l4, ps_ar l5, ps_ar l6) := by
  unfold wpX_total
  exact ps_solve_s (fun p kn l1 l2 l3 l4 l5 l6 h => ⟨9, ps_t8_s _ _ _ _ _ _ _ _ (fun r h => hQ _ _ _ _ _ _ _ _ _ (ps_some h :)) 9 0 0 (ps_bind h)⟩) (ps_bind h)
theorem ps_r31_s {post : Int32 → St2 → Prop} {J : Int32 → Int32 → Prop} {Q : Int32 → Prop} {x3 : Int32} (hQ : ∀ r, Q r → J r (x3 + 1)) (p kn : Int32) (l1 l2 l3 l4 l5 l6 : List Int32) (n : Nat) : ∀ x2 x4 : Int32, ps_ok (ps_r31 l4 n x2 x4) Q → wX_reach_31 post J x3 p kn (ps_ar l1) (ps_ar l2) (ps_ar l3) (ps_ar l4) (ps_ar l5) (ps_ar l6) n x2 x4 := by
  induction n with
  | zero => intro x2 x4 h; exact ps_none h
  | succ n ih =>
    intro x2 x4 h
    exact ps_if h (fun h => nm_e (hQ _ (ps_some h :))) (fun h => ps_bit_s (ps_if h (fun h => nm_e (nm_e (ih _ _ h))) (fun h => ps_inp h (fun _ h => nm_e (nm_e (ih _ _ h))))))
theorem ps_r22_s {post : Int32 → St2 → Prop} {Q : Int32 → Prop} (p kn : Int32) (l1 l2 l3 l4 l5 l6 : List Int32) (hQ : ∀ r, Q r → post r (p, kn, ps_ar l1, ps_ar l2, ps_ar l3, ps_ar l4, ps_ar l5, ps_ar l6)) (n : Nat) : ∀ x2 x3 : Int32, ps_ok (ps_r22 l4 n x2 x3) Q → wX_reach_22 post p kn (ps_ar l1) (ps_ar l2) (ps_ar l3) (ps_ar l4) (ps_ar l5) (ps_ar l6) n x2 x3 := by
  induction n with
  | zero => intro x2 x3 h; exact ps_none h
  | succ n ih =>
    intro x2 x3 h
    exact ps_if h (fun h => hQ _ (ps_some h :)) (fun h => ⟨9, ps_r31_s (fun r h => ih _ _ h) _ _ _ _ _ _ _ _ 9 _ 0 (ps_bind h)⟩)
theorem ps_reach_s {post : Int32 → St2 → Prop} {Q : Int32 × ps_S → Prop} (hQ : ∀ (r : Int32) (p kn : Int32) (l1 l2 l3 l4 l5 l6 : List Int32), Q (r, p, kn, l1, l2, l3, l4, l5, l6) → post r (p, kn, ps_ar l1, ps_ar l2, ps_ar l3, ps_ar l4, ps_ar l5, ps_ar l6)) {p kn : Int32} {l1 l2 l3 l4 l5 l6 : List Int32} {x0 : Int32} (h : ps_ok (ps_reach p kn l1 l2 l3 l4 l5 l6 x0) Q) : wpX_reach post (p, kn, ps_ar l1, ps_ar l2, ps_ar l3, ps_ar l4, ps_ar l5, ps_ar l6) x0 := by
  unfold wpX_reach
  exact ps_var_s (ps_if h (fun h => hQ _ _ _ _ _ _ _ _ _ (ps_some h :)) (fun h => ps_solve_s (fun p kn l1 l2 l3 l4 l5 l6 h => ps_inp h (fun _ h => nm_e ⟨9, ps_r22_s _ _ _ _ _ _ _ _ (fun r h => hQ _ _ _ _ _ _ _ _ _ (ps_some h :)) 9 _ 0 (ps_bind h)⟩)) (ps_bind h)))
theorem ps_alias_s {post : Int32 → St2 → Prop} {Q : Int32 × ps_S → Prop} (hQ : ∀ (r : Int32) (p kn : Int32) (l1 l2 l3 l4 l5 l6 : List Int32), Q (r, p, kn, l1, l2, l3, l4, l5, l6) → post r (p, kn, ps_ar l1, ps_ar l2, ps_ar l3, ps_ar l4, ps_ar l5, ps_ar l6)) {p kn : Int32} {l1 l2 l3 l4 l5 l6 : List Int32} {x0 x1 : Int32} (h : ps_ok (ps_alias p kn l1 l2 l3 l4 l5 l6 x0 x1) Q) : wpX_alias post (p, kn, ps_ar l1, ps_ar l2, ps_ar l3, ps_ar l4, ps_ar l5, ps_ar l6) x0 x1 := by
  unfold wpX_alias
  exact ps_var_s (ps_if h (fun h => hQ _ _ _ _ _ _ _ _ _ (ps_some h :)) (fun h => ps_var_s (ps_if h (fun h => hQ _ _ _ _ _ _ _ _ _ (ps_some h :)) (fun h => ps_if h (fun h => hQ _ _ _ _ _ _ _ _ _ (ps_some h :)) (fun h =>
    ps_solve_s (fun p kn l1 l2 l3 l4 l5 l6 h => ps_inp h (fun _ h => ps_inp h (fun _ h => ps_if h (fun h => hQ _ _ _ _ _ _ _ _ _ (ps_some h :)) (fun h => hQ _ _ _ _ _ _ _ _ _ (ps_some h :))))) (ps_bind h))))))
theorem ps_pb17_s {post : Int32 → St2 → Prop} {Q : Int32 → Prop} (x1 : Int32) (p kn : Int32) (l1 l2 l3 l4 l5 l6 : List Int32) (hQ : ∀ r, Q r → post r (p, kn, ps_ar l1, ps_ar l2, ps_ar l3, ps_ar l4, ps_ar l5, ps_ar l6)) (n : Nat) : ∀ x2 x3 : Int32, ps_ok (ps_pb17 l4 x1 n x2 x3) Q → wX_pointedBy_17 post x1 p kn (ps_ar l1) (ps_ar l2) (ps_ar l3) (ps_ar l4) (ps_ar l5) (ps_ar l6) n x2 x3 := by
  induction n with
  | zero => intro x2 x3 h; exact ps_none h
  | succ n ih =>
    intro x2 x3 h
    exact ps_if h (fun h => hQ _ (ps_some h :)) (fun h => ps_inp h (fun _ h => ps_bit_s (ps_if h (fun h => nm_e (nm_e (ih _ _ h))) (fun h => nm_e (nm_e (ih _ _ h))))))
theorem ps_pb_s {post : Int32 → St2 → Prop} {Q : Int32 × ps_S → Prop} (hQ : ∀ (r : Int32) (p kn : Int32) (l1 l2 l3 l4 l5 l6 : List Int32), Q (r, p, kn, l1, l2, l3, l4, l5, l6) → post r (p, kn, ps_ar l1, ps_ar l2, ps_ar l3, ps_ar l4, ps_ar l5, ps_ar l6)) {p kn : Int32} {l1 l2 l3 l4 l5 l6 : List Int32} {x0 : Int32} (h : ps_ok (ps_pb p kn l1 l2 l3 l4 l5 l6 x0) Q) : wpX_pointedBy post (p, kn, ps_ar l1, ps_ar l2, ps_ar l3, ps_ar l4, ps_ar l5, ps_ar l6) x0 := by
  unfold wpX_pointedBy
  exact ps_var_s (ps_if h (fun h => hQ _ _ _ _ _ _ _ _ _ (ps_some h :)) (fun h => ps_solve_s (fun p kn l1 l2 l3 l4 l5 l6 h => ⟨9, ps_pb17_s _ _ _ _ _ _ _ _ _ (fun r h => hQ _ _ _ _ _ _ _ _ _ (ps_some h :)) 9 0 0 (ps_bind h)⟩) (ps_bind h)))
theorem ps_red_s {post : Int32 → St2 → Prop} {Q : Int32 × ps_S → Prop} (hQ : ∀ (r : Int32) (p kn : Int32) (l1 l2 l3 l4 l5 l6 : List Int32), Q (r, p, kn, l1, l2, l3, l4, l5, l6) → post r (p, kn, ps_ar l1, ps_ar l2, ps_ar l3, ps_ar l4, ps_ar l5, ps_ar l6)) {p kn : Int32} {l1 l2 l3 l4 l5 l6 : List Int32} {x0 : Int32} (h : ps_ok (ps_red p kn l1 l2 l3 l4 l5 l6 x0) Q) : wpX_redundant post (p, kn, ps_ar l1, ps_ar l2, ps_ar l3, ps_ar l4, ps_ar l5, ps_ar l6) x0 := by
  unfold wpX_redundant
  exact ps_has_s (ps_if h (fun h => hQ _ _ _ _ _ _ _ _ _ (ps_some h :)) (fun h => ps_total_s (fun r p kn l1 l2 l3 l4 l5 l6 h => by intro y ey; subst ey; exact (ps_total_s (fun r' p kn l1 l2 l3 l4 l5 l6 h => by intro y ey; subst ey; exact (ps_if h (fun h => hQ _ _ _ _ _ _ _ _ _ (ps_some h :)) (fun h => hQ _ _ _ _ _ _ _ _ _ (ps_some h :)))) (ps_bind h))) (ps_bind h)))
end
section
theorem ps_init_s {post : St2 → Prop} (h : post (0, 0, ps_ar (List.replicate 13 0), ps_ar (List.replicate 13 0), ps_ar (List.replicate 13 0), ps_ar (List.replicate 8 0), ps_ar (List.replicate 8 0), ps_ar (List.replicate 8 0))) : wpX_init post 6 63 (0, 0) := by
  rw [ps_ar0 13, ps_ar0 8] at h
  exact ⟨by decide, by decide, by decide, by decide, by decide, by decide, by decide, by decide, by decide, by decide, by decide, by decide, h⟩
theorem ps_e224_s {post : Int32 → St0 → Prop} {mc ms kc ks : Nat} {x16 z0 z1 : Int32} (h : post (ps_e224 x16 z0 z1) ()) : wL_lawOf_224 post mc ms x16 z0 z1 kc ks :=
  ps_ifv (post := fun r => post r ()) h (fun h => ps_ifv (post := fun r => post r ()) h (fun h => h) (fun h => h)) (fun h => h)
theorem ps_e173_s {post : Int32 → St0 → Prop} {mc ms kc ks : Nat} {x7 x8 x9 x10 x12 x13 x14 x15 x16 z0 z1 : Int32} (h : post (ps_e173 x7 x8 x9 x10 x12 x13 x14 x15 x16 z0 z1) ()) : wL_lawOf_173 post mc ms x7 x8 x9 x10 x12 x13 x14 x15 x16 z0 z1 kc ks :=
  ps_ifv (post := fun r => post r ()) h (fun h => ps_ifv (post := fun r => post r ()) h (fun h => ps_ifv (post := fun r => post r ()) h (fun h => ps_ifv (post := fun r => post r ()) h (fun h => h) (fun h =>
    ps_ifv (post := fun r => post r ()) h (fun h => ps_e224_s h) (fun h => ps_e224_s h))) (fun h => h)) (fun h => h)) (fun h => h)
theorem ps_e133_s {post : Int32 → St0 → Prop} {mc ms kc ks : Nat} {x7 x8 x9 x10 x11 x12 x13 z0 z1 : Int32} {p kn : Int32} {l1 l2 l3 l4 l5 l6 : List Int32} (h : ps_ok (ps_e133 x7 x8 x9 x10 x11 x12 x13 z0 z1 p kn l1 l2 l3 l4 l5 l6) (fun r => post r ())) : wL_lawOf_133 post mc ms x7 x8 x9 x10 x11 x12 x13 z0 z1 kc ks p kn (ps_ar l1) (ps_ar l2) (ps_ar l3) (ps_ar l4) (ps_ar l5) (ps_ar l6) := by
  unfold wL_lawOf_133
  exact ps_alias_s (fun a p kn l1 l2 l3 l4 l5 l6 h => ps_pb_s (fun b p kn l1 l2 l3 l4 l5 l6 h => ps_red_s (fun c p kn l1 l2 l3 l4 l5 l6 h => by dsimp only; exact ps_if h (fun h => ps_e173_s (ps_some h :)) (fun h => ps_e173_s (ps_some h :))) (ps_bind h)) (ps_bind h)) (ps_bind h)
theorem ps_e84_s {post : Int32 → St0 → Prop} {mc ms kc ks : Nat} {x6 x7 x8 x9 x10 z0 : Int32} {p kn : Int32} {l1 l2 l3 l4 l5 l6 : List Int32} (h : ps_ok (ps_e84 x6 x7 x8 x9 x10 z0 p kn l1 l2 l3 l4 l5 l6) (fun r => post r ())) : wL_lawOf_84 post mc ms x6 x7 x8 x9 x10 z0 kc ks p kn (ps_ar l1) (ps_ar l2) (ps_ar l3) (ps_ar l4) (ps_ar l5) (ps_ar l6) := by
  unfold wL_lawOf_84
  exact ps_add_s (fun a p kn l1 l2 l3 l4 l5 l6 h => ps_pt_s (fun b p kn l1 l2 l3 l4 l5 l6 h => ps_total_s (fun c p kn l1 l2 l3 l4 l5 l6 h => ps_reach_s (fun d p kn l1 l2 l3 l4 l5 l6 h => by dsimp only; exact ps_if h (fun h => ps_e133_s h) (fun h => ps_e133_s h)) (ps_bind h)) (ps_bind h)) (ps_bind h)) (ps_bind h)
theorem ps_e70_s {post : Int32 → St0 → Prop} {mc ms kc ks : Nat} {x6 x7 x8 x9 z0 : Int32} {p kn : Int32} {l1 l2 l3 l4 l5 l6 : List Int32} (h : ps_ok (ps_e70 x6 x7 x8 x9 z0 p kn l1 l2 l3 l4 l5 l6) (fun r => post r ())) : wL_lawOf_70 post mc ms x6 x7 x8 x9 z0 kc ks p kn (ps_ar l1) (ps_ar l2) (ps_ar l3) (ps_ar l4) (ps_ar l5) (ps_ar l6) :=
  ps_if h (fun h => ps_e84_s h) (fun h => ps_e84_s h)
theorem ps_law_s {post : Int32 → St0 → Prop} {p0 p1 p2 p3 p4 : Int32} (h : ps_ok (ps_law (p0 &&& 1) (2 + (p1 &&& 1)) (4 + (p2 &&& 1)) (6 + (p3 &&& 1)) (p4 &&& 1)) (fun r => post r ())) : wpL_lawOf post 30 480 () p0 p1 p2 p3 p4 := by
  refine ⟨by decide, by decide, 6, 63, by decide, by decide, ps_init_s ?_⟩
  exact nm_e (nm_e (nm_e (nm_e (ps_add_s (fun a p kn l1 l2 l3 l4 l5 l6 h => ps_add_s (fun b p kn l1 l2 l3 l4 l5 l6 h => by dsimp only; exact ps_if h (fun h => ps_e70_s h) (fun h => ps_e70_s h)) (ps_bind h)) (ps_bind h)))))
end
section
theorem ps_run : ∀ a : Fin 2, ∀ b : Fin 2, ∀ c : Fin 2, ∀ d : Fin 2, ∀ e : Fin 2, ps_law (Int32.ofNat a.val) (2 + Int32.ofNat b.val) (4 + Int32.ofNat c.val) (6 + Int32.ofNat d.val) (Int32.ofNat e.val) = some 1 := by
  decide +kernel
end
section
theorem ps_and1 (x : Int32) : ∃ a : Fin 2, x &&& 1 = Int32.ofNat a.val := by
  obtain ⟨j, hj, e⟩ := vp_in_of (pk_andIn x (m := 1) 1 (by decide) (by decide)) (by decide)
  exact ⟨⟨j, hj⟩, e⟩
theorem ps_lawOf (p0 p1 p2 p3 p4 : Int32) : wpL_lawOf (fun r _ => r = 1) 30 480 () p0 p1 p2 p3 p4 := by
  obtain ⟨a, ea⟩ := ps_and1 p0
  obtain ⟨b, eb⟩ := ps_and1 p1
  obtain ⟨c, ec⟩ := ps_and1 p2
  obtain ⟨d, ed⟩ := ps_and1 p3
  obtain ⟨e, ee⟩ := ps_and1 p4
  refine ps_law_s ?_
  rw [ea, eb, ec, ed, ee]
  exact ⟨1, ps_run a b c d e, rfl⟩
theorem ps_cell {post : Int32 → Prop} {L : Nat} {xs : Nat → Int32} (k : Nat) (hk : k < 5) (hL : L ≤ 5) (h : ∀ x, post x) : wpL_cellAt post L xs () (nI k) :=
  pk_le L k (fun _ => h _) (fun z => ⟨vp_in_nI z (by omega), h _⟩)
theorem i_vc (xs : Nat → Int32) (L : Nat) (hL : L ≤ 5) : wpL_law (fun r => r = 1) L xs :=
  ps_cell 0 (by omega) hL (fun r1 => ps_cell 1 (by omega) hL (fun r2 => ps_cell 2 (by omega) hL (fun r3 => ps_cell 3 (by omega) hL (fun r4 => ps_cell 4 (by omega) hL (fun r5 =>
    ⟨30, 480, by decide, by decide, ps_lawOf r1 r2 r3 r4 r5⟩)))))
end
