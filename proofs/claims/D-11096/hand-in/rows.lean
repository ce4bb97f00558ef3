section
/-! The base: lists as arrays, forced values, the steps of a mirror. -/
/-- a list seen as an array -/
def tw_f : List Int32 → Nat → Int32
  | [], _ => 0
  | a :: _, 0 => a
  | _ :: l, k + 1 => tw_f l k
theorem tw_f_set (l : List Int32) : ∀ (k : Nat) (v : Int32), k < l.length → upd (tw_f l) k v = tw_f (l.set k v) := by
  induction l with
  | nil => intro k v h; exact absurd h (Nat.not_lt_zero _)
  | cons a l ih =>
    intro k v h
    funext j
    cases k with
    | zero =>
      cases j with
      | zero => simp [upd, tw_f]
      | succ j => simp [upd, tw_f]
    | succ k =>
      cases j with
      | zero => simp [upd, tw_f]
      | succ j =>
        have e := congrFun (ih k v (by simpa using h)) j
        simp only [upd] at e
        simp [upd, tw_f, ← e]
theorem tw_f_rep (n : Nat) : tw_f (List.replicate n 0) = fun _ => 0 := by
  induction n with
  | zero => rfl
  | succ n ih =>
    funext j
    cases j with
    | zero => rfl
    | succ j => exact congrFun ih j
theorem tw_id (x : Int32) : nI x.toBitVec.toNat = x := by
  apply Int32.toBitVec_inj.mp
  simp [nI]
/-- a value made plain before it is used -/
def tw_fo {α : Type} (x : Int32) (f : Int32 → α) : α := match x.toBitVec.toNat with
  | 0 => f 0
  | k + 1 => f (nI (k + 1))
theorem tw_fo_eq {α : Type} (x : Int32) (f : Int32 → α) : tw_fo x f = f x := by
  have e := tw_id x
  unfold tw_fo
  split
  · rename_i h
    rw [h] at e
    rw [← e]
    rfl
  · rename_i k h
    rw [h] at e
    rw [e]
def tw_fl {α : Type} : List Int32 → (List Int32 → α) → α
  | [], f => f []
  | a :: l, f => tw_fo a (fun b => tw_fl l (fun k => f (b :: k)))
theorem tw_fl_eq {α : Type} (l : List Int32) : ∀ f : List Int32 → α, tw_fl l f = f l := by
  induction l with
  | nil => intro f; rfl
  | cons a l ih =>
    intro f
    show tw_fo a (fun b => tw_fl l (fun k => f (b :: k))) = f (a :: l)
    rw [tw_fo_eq, ih]
/-- a call that answers an int -/
def tw_bi {α : Type} (o : Option Int32) (f : Int32 → Option α) : Option α := match o with
  | none => none
  | some x => tw_fo x f
/-- a call that answers an array -/
def tw_bl {α : Type} (o : Option (List Int32)) (f : List Int32 → Option α) : Option α := match o with
  | none => none
  | some x => tw_fl x f
/-- a call that answers an int and an array -/
def tw_bp {α : Type} (o : Option (Int32 × List Int32)) (f : Int32 → List Int32 → Option α) : Option α := match o with
  | none => none
  | some p => tw_fo p.1 (fun x => tw_fl p.2 (fun l => f x l))
/-- a call that answers two ints -/
def tw_b2 {α : Type} (o : Option (Int32 × Int32)) (f : Int32 → Int32 → Option α) : Option α := match o with
  | none => none
  | some p => tw_fo p.1 (fun x => tw_fo p.2 (fun y => f x y))
/-- a call that answers four ints -/
def tw_b4 {α : Type} (o : Option (Int32 × Int32 × Int32 × Int32)) (f : Int32 → Int32 → Int32 → Int32 → Option α) : Option α := match o with
  | none => none
  | some p => tw_fo p.1 (fun x => tw_fo p.2.1 (fun y => tw_fo p.2.2.1 (fun z => tw_fo p.2.2.2 (fun w => f x y z w))))
/-- a call that answers two ints and an array -/
def tw_bq {α : Type} (o : Option (Int32 × Int32 × List Int32)) (f : Int32 → Int32 → List Int32 → Option α) : Option α := match o with
  | none => none
  | some p => tw_fo p.1 (fun x => tw_fo p.2.1 (fun y => tw_fl p.2.2 (fun l => f x y l)))
/-- a call that answers an int and two arrays -/
def tw_br {α : Type} (o : Option (Int32 × List Int32 × List Int32)) (f : Int32 → List Int32 → List Int32 → Option α) : Option α := match o with
  | none => none
  | some p => tw_fo p.1 (fun x => tw_fl p.2.1 (fun l => tw_fl p.2.2 (fun k => f x l k)))
theorem tw_no {α : Type} {A : Prop} {r : α} (h : (none : Option α) = some r) : A := nomatch h
theorem tw_foI {α : Type} {A : Prop} {x : Int32} {f : Int32 → α} {r : α} (h : tw_fo x f = r) (k : f x = r → A) : A := k (tw_fo_eq x f ▸ h)
theorem tw_flI {α : Type} {A : Prop} {x : List Int32} {f : List Int32 → α} {r : α} (h : tw_fl x f = r) (k : f x = r → A) : A := k (tw_fl_eq x f ▸ h)
theorem tw_biI {α : Type} {A : Prop} {o : Option Int32} {f : Int32 → Option α} {r : α} (h : tw_bi o f = some r) (k : ∀ x, o = some x → f x = some r → A) : A := by
  cases o with
  | none => exact tw_no h
  | some x => exact tw_foI h (fun h => k x rfl h)
theorem tw_blI {α : Type} {A : Prop} {o : Option (List Int32)} {f : List Int32 → Option α} {r : α} (h : tw_bl o f = some r) (k : ∀ x, o = some x → f x = some r → A) : A := by
  cases o with
  | none => exact tw_no h
  | some x => exact tw_flI h (fun h => k x rfl h)
theorem tw_bpI {α : Type} {A : Prop} {o : Option (Int32 × List Int32)} {f : Int32 → List Int32 → Option α} {r : α} (h : tw_bp o f = some r) (k : ∀ x l, o = some (x, l) → f x l = some r → A) : A := by
  cases o with
  | none => exact tw_no h
  | some p =>
    have h : tw_fo p.1 (fun x => tw_fl p.2 (fun l => f x l)) = some r := h
    rw [tw_fo_eq, tw_fl_eq] at h
    exact k p.1 p.2 rfl h
theorem tw_b2I {α : Type} {A : Prop} {o : Option (Int32 × Int32)} {f : Int32 → Int32 → Option α} {r : α} (h : tw_b2 o f = some r) (k : ∀ x y, o = some (x, y) → f x y = some r → A) : A := by
  cases o with
  | none => exact tw_no h
  | some p =>
    have h : tw_fo p.1 (fun x => tw_fo p.2 (fun y => f x y)) = some r := h
    rw [tw_fo_eq, tw_fo_eq] at h
    exact k p.1 p.2 rfl h
theorem tw_b4I {α : Type} {A : Prop} {o : Option (Int32 × Int32 × Int32 × Int32)} {f : Int32 → Int32 → Int32 → Int32 → Option α} {r : α} (h : tw_b4 o f = some r) (k : ∀ x y z w, o = some (x, y, z, w) → f x y z w = some r → A) : A := by
  cases o with
  | none => exact tw_no h
  | some p =>
    have h : tw_fo p.1 (fun x => tw_fo p.2.1 (fun y => tw_fo p.2.2.1 (fun z => tw_fo p.2.2.2 (fun w => f x y z w)))) = some r := h
    rw [tw_fo_eq, tw_fo_eq, tw_fo_eq, tw_fo_eq] at h
    exact k p.1 p.2.1 p.2.2.1 p.2.2.2 rfl h
theorem tw_bqI {α : Type} {A : Prop} {o : Option (Int32 × Int32 × List Int32)} {f : Int32 → Int32 → List Int32 → Option α} {r : α} (h : tw_bq o f = some r) (k : ∀ x y l, o = some (x, y, l) → f x y l = some r → A) : A := by
  cases o with
  | none => exact tw_no h
  | some p =>
    have h : tw_fo p.1 (fun x => tw_fo p.2.1 (fun y => tw_fl p.2.2 (fun l => f x y l))) = some r := h
    rw [tw_fo_eq, tw_fo_eq, tw_fl_eq] at h
    exact k p.1 p.2.1 p.2.2 rfl h
theorem tw_brI {α : Type} {A : Prop} {o : Option (Int32 × List Int32 × List Int32)} {f : Int32 → List Int32 → List Int32 → Option α} {r : α} (h : tw_br o f = some r) (k : ∀ x l j, o = some (x, l, j) → f x l j = some r → A) : A := by
  cases o with
  | none => exact tw_no h
  | some p =>
    have h : tw_fo p.1 (fun x => tw_fl p.2.1 (fun l => tw_fl p.2.2 (fun k => f x l k))) = some r := h
    rw [tw_fo_eq, tw_fl_eq, tw_fl_eq] at h
    exact k p.1 p.2.1 p.2.2 rfl h
/-- a place is in range -/
def tw_g {α : Type} (i : Int32) (n : Nat) (a : Option α) : Option α := if i < 0 ∨ n ≤ i.toNatClampNeg then none else a
theorem tw_gI {α : Type} {A : Prop} {i : Int32} {n : Nat} {a : Option α} {r : α} (h : tw_g i n a = some r) (k : a = some r → A) : vp_in i n ∧ A := by
  unfold tw_g at h
  by_cases c : i < 0 ∨ n ≤ i.toNatClampNeg
  · rw [if_pos c] at h
    exact tw_no h
  · rw [if_neg c] at h
    exact ⟨c, k h⟩
/-- a store -/
def tw_st {α : Type} (l : List Int32) (k : Nat) (v : Int32) (f : List Int32 → Option α) : Option α := if k < l.length then f (l.set k v) else none
theorem tw_stI {α : Type} {l : List Int32} {k : Nat} {v : Int32} {f : List Int32 → Option α} {r : α} {A : (Nat → Int32) → Prop} (h : tw_st l k v f = some r) (K : f (l.set k v) = some r → A (tw_f (l.set k v))) : ∀ b, b = upd (tw_f l) k v → A b := by
  intro b e
  unfold tw_st at h
  by_cases c : k < l.length
  · rw [if_pos c] at h
    rw [e, tw_f_set l k v c]
    exact K h
  · rw [if_neg c] at h
    exact tw_no h
/-- a branch -/
theorem tw_b {α : Type} {c A B : Prop} {d : Decidable c} {a b r : α} (h : @ite α c d a b = r) (f : c → a = r → A) (g : ¬ c → b = r → B) : (c → A) ∧ (¬ c → B) := by
  refine ⟨fun z => f z ?_, fun z => g z ?_⟩
  · rw [if_pos z] at h
    exact h
  · rw [if_neg z] at h
    exact h
end
section
/-! Mirrors of the methods up to the search, and their lemmas. -/
def tx_bad (c : Int32) : Int32 := if c < 0 then 1 else if c ≤ 2 then 0 else 1
def tx_pat (c m : Int32) (l : List Int32) : Option (Int32 × List Int32) :=
  if tx_bad c = 0 then (if m = 16 then none else tw_g m 16 (tw_st l m.toNatClampNeg c (fun l => some (m + 1, l)))) else none
def tx_feed (c n : Int32) (l : List Int32) : Option (Int32 × List Int32) :=
  if tx_bad c = 0 then (if n = 48 then none else tw_g n 48 (tw_st l n.toNatClampNeg c (fun l => some (n + 1, l)))) else none
def tx_fpL (m nn : Int32) (a1 : Nat → Int32) : Nat → Int32 → List Int32 → Option (Int32 × List Int32)
  | 0 => fun _ _ => none
  | n + 1 => fun x l => if m ≤ x then some (nn + m, l) else tw_g x 16 (tw_g (nn + x) 48 (tw_st l (nn + x).toNatClampNeg (a1 x.toNatClampNeg) (fun l => tw_fo (x + 1) (fun x => tx_fpL m nn a1 n x l))))
def tx_fp (m nn : Int32) (a1 : Nat → Int32) (l : List Int32) : Option (Int32 × List Int32) :=
  if nn + m ≤ 48 then tx_fpL m nn a1 20 0 l else none
def tx_rotL (m i : Int32) (a1 : Nat → Int32) : Nat → Int32 → List Int32 → Option (List Int32)
  | 0 => fun _ _ => none
  | n + 1 => fun k l => if m ≤ k then some l else
      if m ≤ i + k then tw_g (i + k - m) 16 (tw_g k 16 (tw_st l k.toNatClampNeg (a1 (i + k - m).toNatClampNeg) (fun l => tw_fo (k + 1) (fun k => tx_rotL m i a1 n k l))))
      else tw_g (i + k) 16 (tw_g k 16 (tw_st l k.toNatClampNeg (a1 (i + k).toNatClampNeg) (fun l => tw_fo (k + 1) (fun k => tx_rotL m i a1 n k l))))
def tx_rot (m i : Int32) (a1 : Nat → Int32) (l : List Int32) : Option (List Int32) := tx_rotL m i a1 20 0 l
def tx_sm (p0 p1 p2 : Int32) : Int32 := if p2 = 0 then (if p1 ≤ p0 then 0 else 1) else (if p0 ≤ p1 then 0 else 1)
def tx_feL (m o : Int32) (a3 : Nat → Int32) : Nat → Int32 → Int32 → Int32 → Int32 → Int32 → Option (Int32 × Int32)
  | 0 => fun _ _ _ _ _ => none
  | n + 1 => fun x2 x3 x4 x5 x6 => if 64 ≤ x6 then some (x2, x5) else if m ≤ x3 + x4 then some (x2, x5) else
      tw_g (x3 + x4) 16 (tw_g (x2 + x4) 16 (
        if a3 (x3 + x4).toNatClampNeg = a3 (x2 + x4).toNatClampNeg then
          (if x4 + 1 = x5 then tw_fo (x3 + x5) (fun x3 => tw_fo (x6 + 1) (fun x6 => tx_feL m o a3 n x2 x3 0 x5 x6))
            else tw_fo (x4 + 1) (fun x4 => tw_fo (x6 + 1) (fun x6 => tx_feL m o a3 n x2 x3 x4 x5 x6)))
        else if tx_sm (a3 (x3 + x4).toNatClampNeg) (a3 (x2 + x4).toNatClampNeg) o = 0 then tw_fo (x3 + 1) (fun y => tw_fo (x6 + 1) (fun x6 => tx_feL m o a3 n x3 y 0 1 x6))
        else tw_fo (x3 + x4 + 1) (fun x3 => tw_fo (x3 - x2) (fun x5 => tw_fo (x6 + 1) (fun x6 => tx_feL m o a3 n x2 x3 0 x5 x6)))))
def tx_fe (m o : Int32) (a3 : Nat → Int32) : Option (Int32 × Int32) := tx_feL m o a3 70 0 1 0 1 0
def tx_cut (m : Int32) (a3 : Nat → Int32) : Option (Int32 × Int32 × Int32 × Int32) :=
  tw_b2 (tx_fe m 0 a3) (fun p q => tw_b2 (tx_fe m 1 a3) (fun c t => if c ≤ p then some (p, q, c, t) else some (c, t, c, t)))
def tx_perL (cu tu : Int32) (a3 : Nat → Int32) : Nat → Int32 → Option Int32
  | 0 => fun _ => none
  | n + 1 => fun x => if cu ≤ x then some 1 else tw_g x 16 (tw_g (x + tu) 16 (if a3 x.toNatClampNeg = a3 (x + tu).toNatClampNeg then tw_fo (x + 1) (fun x => tx_perL cu tu a3 n x) else some 0))
def tx_per (m cu tu : Int32) (a3 : Nat → Int32) : Option Int32 := if cu + tu ≤ m then tx_perL cu tu a3 20 0 else some 0
def tx_rdL (m j : Int32) (a2 a3 : Nat → Int32) : Nat → Int32 → Int32 → Option Int32
  | 0 => fun _ _ => none
  | n + 1 => fun x3 x4 => if 16 ≤ x4 then some x3 else if m ≤ x3 then some x3 else tw_g x3 16 (tw_g (x3 + j) 48 (
      if a3 x3.toNatClampNeg = a2 (x3 + j).toNatClampNeg then tw_fo (x3 + 1) (fun x3 => tw_fo (x4 + 1) (fun x4 => tx_rdL m j a2 a3 n x3 x4)) else some x3))
def tx_rd (m cu : Int32) (a2 a3 : Nat → Int32) (j k : Int32) : Option Int32 := if cu ≤ k then tx_rdL m j a2 a3 20 k 0 else tx_rdL m j a2 a3 20 cu 0
def tx_lfL (j k : Int32) (a2 a3 : Nat → Int32) : Nat → Int32 → Option Int32
  | 0 => fun _ => none
  | n + 1 => fun x => if x < k then some 1 else tw_g x 16 (tw_g (x + j) 48 (
      if a3 x.toNatClampNeg = a2 (x + j).toNatClampNeg then tw_fo (x + (-1)) (fun x => tx_lfL j k a2 a3 n x) else some 0))
def tx_lf (cu : Int32) (a2 a3 : Nat → Int32) (j k : Int32) : Option Int32 := tw_fo (cu - 1) (fun x => tx_lfL j k a2 a3 20 x)
def tx_seL (m nn cu : Int32) (a2 a3 : Nat → Int32) (x2 x5 : Int32) : Nat → Int32 → Int32 → Int32 → Option Int32
  | 0 => fun _ _ _ => none
  | n + 1 => fun x6 x7 x8 => if 48 < x8 then some (-1) else if nn < x7 + m then some (-1) else
      tw_bi (tx_rd m cu a2 a3 x7 x6) (fun r => if m ≤ r then
          tw_bi (tx_lf cu a2 a3 x7 x6) (fun q => if q = 0 then
              tw_fo (x7 + x5) (fun y7 => if x2 = 0 then tw_fo (x8 + 1) (fun x8 => tx_seL m nn cu a2 a3 x2 x5 n 0 y7 x8)
                else tw_fo (m - x5) (fun y6 => tw_fo (x8 + 1) (fun x8 => tx_seL m nn cu a2 a3 x2 x5 n y6 y7 x8)))
            else some x7)
        else tw_fo (x7 + r - cu + 1) (fun y7 => tw_fo (x8 + 1) (fun x8 => tx_seL m nn cu a2 a3 x2 x5 n 0 y7 x8)))
def tx_se (m nn cu tu : Int32) (a2 a3 : Nat → Int32) (p : Int32) : Option Int32 :=
  tw_bi (tx_per m cu tu a3) (fun r => tw_fo (m - cu) (fun x4 => if r = 0 then
      (if cu ≤ x4 then tw_fo (x4 + 1) (fun x5 => tx_seL m nn cu a2 a3 r x5 60 0 p 0) else tw_fo (cu + 1) (fun x5 => tx_seL m nn cu a2 a3 r x5 60 0 p 0))
    else tx_seL m nn cu a2 a3 r tu 60 0 p 0))
def tx_faL (m nn cu tu : Int32) (a2 a3 : Nat → Int32) : Nat → Int32 → Int32 → Int32 → List Int32 → Option (Int32 × List Int32)
  | 0 => fun _ _ _ _ => none
  | n + 1 => fun x1 x2 c l => if 48 ≤ x2 then some (c, l) else if x1 < 0 then some (c, l) else
      tw_g c 48 (tw_st l c.toNatClampNeg x1 (fun l => tw_fo (c + 1) (fun c => tw_bi (tx_se m nn cu tu a2 a3 (x1 + 1)) (fun r => tw_fo (x2 + 1) (fun x2 => tx_faL m nn cu tu a2 a3 n r x2 c l)))))
/-- count, word, places -/
def tx_fa (m nn : Int32) (a1 a2 : Nat → Int32) (w p : List Int32) : Option (Int32 × List Int32 × List Int32) :=
  if m ≤ 0 then none else tw_bl (tx_rot m 0 a1 w) (fun w => tw_b4 (tx_cut m (tw_f w)) (fun cu tu _ _ => tw_bi (tx_se m nn cu tu a2 (tw_f w) 0) (fun r => tw_bp (tx_faL m nn cu tu a2 (tw_f w) 60 r 0 0 p) (fun c p => some (c, w, p)))))
section
variable {m nn cu tu fc ft se co : Int32} {a1 a2 a3 a4 a5 a6 : Nat → Int32}
theorem tw_bad {post : Int32 → Prop} {c : Int32} (hp : post (tx_bad c)) : wpX_badLetter post (m, nn, cu, tu, fc, ft, se, co, a1, a2, a3, a4, a5, a6) c := by
  unfold tx_bad at hp
  refine ⟨fun h => ?_, fun h => ⟨fun g => ?_, fun g => ?_⟩⟩
  · rw [if_pos h] at hp
    exact hp
  · rw [if_neg h, if_pos g] at hp
    exact hp
  · rw [if_neg h, if_neg g] at hp
    exact hp
theorem tw_pat {post : Int32 → St2 → Prop} {c r : Int32} {l k : List Int32} (h : tx_pat c m l = some (r, k)) (hp : post r (r, nn, cu, tu, fc, ft, 0, co, tw_f k, a2, a3, a4, a5, a6)) : wpX_pattern post (m, nn, cu, tu, fc, ft, se, co, tw_f l, a2, a3, a4, a5, a6) c := by
  unfold wpX_pattern
  refine tw_bad ?_
  exact tw_b h (fun _ h => tw_b h (fun _ h => tw_no h) (fun _ h => tw_gI h fun h => tw_stI h fun h => nm_e (by cases h; exact hp))) (fun _ h => tw_no h)
theorem tw_feed {post : Int32 → St2 → Prop} {c r : Int32} {l k : List Int32} (h : tx_feed c nn l = some (r, k)) (hp : post r (m, r, cu, tu, fc, ft, 0, co, a1, tw_f k, a3, a4, a5, a6)) : wpX_feed post (m, nn, cu, tu, fc, ft, se, co, a1, tw_f l, a3, a4, a5, a6) c := by
  unfold wpX_feed
  refine tw_bad ?_
  exact tw_b h (fun _ h => tw_b h (fun _ h => tw_no h) (fun _ h => tw_gI h fun h => tw_stI h fun h => nm_e (by cases h; exact hp))) (fun _ h => tw_no h)
theorem tw_fpL {post : Int32 → St2 → Prop} {r : Int32} {k : List Int32} (hp : post r (m, r, cu, tu, fc, ft, 0, co, a1, tw_f k, a3, a4, a5, a6)) : ∀ (n : Nat) (x : Int32) (l : List Int32), tx_fpL m nn a1 n x l = some (r, k) → wX_feedPattern_19 post m nn cu tu fc ft se co n x a1 (tw_f l) a3 a4 a5 a6 := by
  intro n
  induction n with
  | zero => intro x l h; exact tw_no h
  | succ n ih =>
    intro x l h
    exact tw_b h (fun _ h => nm_e (by cases h; exact hp)) (fun _ h => tw_gI h fun h => tw_gI h fun h => tw_stI h fun h => tw_foI h fun h => nm_e (ih _ _ h))
theorem tw_fp {post : Int32 → St2 → Prop} {r : Int32} {l k : List Int32} (h : tx_fp m nn a1 l = some (r, k)) (hp : post r (m, r, cu, tu, fc, ft, 0, co, a1, tw_f k, a3, a4, a5, a6)) : wpX_feedPattern post (m, nn, cu, tu, fc, ft, se, co, a1, tw_f l, a3, a4, a5, a6) :=
  tw_b h (fun _ h => ⟨20, tw_fpL hp 20 0 l h⟩) (fun _ h => tw_no h)
theorem tw_rotL {post : St2 → Prop} {i : Int32} {r : List Int32} (hp : post (m, nn, cu, tu, fc, ft, se, co, a1, a2, tw_f r, a4, a5, a6)) : ∀ (n : Nat) (k : Int32) (l : List Int32), tx_rotL m i a1 n k l = some r → wX_rotateInto_2 post i m nn cu tu fc ft se co n k a1 a2 (tw_f l) a4 a5 a6 := by
  intro n
  induction n with
  | zero => intro k l h; exact tw_no h
  | succ n ih =>
    intro k l h
    exact tw_b h (fun _ h => by cases h; exact hp) (fun _ h => nm_e (tw_b h
      (fun _ h => tw_gI h fun h => tw_gI h fun h => tw_stI h fun h => tw_foI h fun h => nm_e (ih _ _ h))
      (fun _ h => tw_gI h fun h => tw_gI h fun h => tw_stI h fun h => tw_foI h fun h => nm_e (ih _ _ h))))
theorem tw_rot {post : St2 → Prop} {i : Int32} {l r : List Int32} (h : tx_rot m i a1 l = some r) (hp : post (m, nn, cu, tu, fc, ft, se, co, a1, a2, tw_f r, a4, a5, a6)) : wpX_rotateInto post (m, nn, cu, tu, fc, ft, se, co, a1, a2, tw_f l, a4, a5, a6) i :=
  ⟨20, tw_rotL hp 20 0 l h⟩
theorem tw_sm {post : Int32 → Prop} {p0 p1 p2 : Int32} (hp : post (tx_sm p0 p1 p2)) : wpX_smaller post (m, nn, cu, tu, fc, ft, se, co, a1, a2, a3, a4, a5, a6) p0 p1 p2 := by
  unfold tx_sm at hp
  refine ⟨fun h => ⟨fun g => ?_, fun g => ?_⟩, fun h => ⟨fun g => ?_, fun g => ?_⟩⟩
  · rw [if_pos h, if_pos g] at hp
    exact hp
  · rw [if_pos h, if_neg g] at hp
    exact hp
  · rw [if_neg h, if_pos g] at hp
    exact hp
  · rw [if_neg h, if_neg g] at hp
    exact hp
theorem tw_feL {post : St2 → Prop} {o : Int32} {p q : Int32} (hp : post (m, nn, cu, tu, p, q, se, co, a1, a2, a3, a4, a5, a6)) : ∀ (n : Nat) (x2 x3 x4 x5 x6 : Int32), tx_feL m o a3 n x2 x3 x4 x5 x6 = some (p, q) → wX_findEnd_13 post o m nn cu tu fc ft se co a1 a2 a3 a4 a5 a6 n x2 x3 x4 x5 x6 := by
  intro n
  induction n with
  | zero => intro _ _ _ _ _ h; exact tw_no h
  | succ n ih =>
    intro x2 x3 x4 x5 x6 h
    exact tw_b h (fun _ h => by cases h; exact hp) (fun _ h => tw_b h (fun _ h => by cases h; exact hp) (fun _ h =>
      tw_gI h fun h => nm_e (tw_gI h fun h => nm_e (tw_b h
        (fun _ h => nm_e (tw_b h (fun _ h => nm_e (nm_e (tw_foI h fun h => tw_foI h fun h => ih _ _ _ _ _ h))) (fun _ h => nm_e (tw_foI h fun h => tw_foI h fun h => ih _ _ _ _ _ h))))
        (fun _ h => tw_sm (tw_b h (fun _ h => nm_e (nm_e (tw_foI h fun h => tw_foI h fun h => ih _ _ _ _ _ h))) (fun _ h => nm_e (nm_e (nm_e (tw_foI h fun h => tw_foI h fun h => tw_foI h fun h => ih _ _ _ _ _ h))))))))))
theorem tw_fe {post : St2 → Prop} {o p q : Int32} (h : tx_fe m o a3 = some (p, q)) (hp : post (m, nn, cu, tu, p, q, se, co, a1, a2, a3, a4, a5, a6)) : wpX_findEnd post (m, nn, cu, tu, fc, ft, se, co, a1, a2, a3, a4, a5, a6) o :=
  ⟨70, tw_feL hp 70 0 1 0 1 0 h⟩
theorem tw_cut {post : St2 → Prop} {p q c t : Int32} (h : tx_cut m a3 = some (p, q, c, t)) (hp : post (m, nn, p, q, c, t, se, co, a1, a2, a3, a4, a5, a6)) : wpX_cutWord post (m, nn, cu, tu, fc, ft, se, co, a1, a2, a3, a4, a5, a6) := by
  unfold wpX_cutWord
  refine tw_b2I h (fun x y h1 h => tw_b2I h (fun z w h2 h => tw_fe h1 ?_))
  refine tw_fe h2 ?_
  exact tw_b h (fun _ h => by cases h; exact hp) (fun _ h => by cases h; exact hp)
theorem tw_perL {post : Int32 → Prop} {r : Int32} (hp : post r) : ∀ (n : Nat) (x : Int32), tx_perL cu tu a3 n x = some r → wX_periodic_20 post m nn cu tu fc ft se co a1 a2 a3 a4 a5 a6 n x := by
  intro n
  induction n with
  | zero => intro _ h; exact tw_no h
  | succ n ih =>
    intro x h
    exact tw_b h (fun _ h => by cases h; exact hp) (fun _ h => tw_gI h fun h => tw_gI h fun h => tw_b h (fun _ h => nm_e (tw_foI h fun h => ih _ h)) (fun _ h => by cases h; exact hp))
theorem tw_per {post : Int32 → Prop} {r : Int32} (h : tx_per m cu tu a3 = some r) (hp : post r) : wpX_periodic post (m, nn, cu, tu, fc, ft, se, co, a1, a2, a3, a4, a5, a6) :=
  tw_b h (fun _ h => ⟨20, tw_perL hp 20 0 h⟩) (fun _ h => by cases h; exact hp)
theorem tw_rdL {post : Int32 → Prop} {j r : Int32} (hp : post r) : ∀ (n : Nat) (x3 x4 : Int32), tx_rdL m j a2 a3 n x3 x4 = some r → wX_rightDifference_20 post j m nn cu tu fc ft se co a1 a2 a3 a4 a5 a6 n x3 x4 := by
  intro n
  induction n with
  | zero => intro _ _ h; exact tw_no h
  | succ n ih =>
    intro x3 x4 h
    exact tw_b h (fun _ h => by cases h; exact hp) (fun _ h => tw_b h (fun _ h => by cases h; exact hp) (fun _ h =>
      tw_gI h fun h => tw_gI h fun h => tw_b h (fun _ h => nm_e (nm_e (tw_foI h fun h => tw_foI h fun h => ih _ _ h))) (fun _ h => by cases h; exact hp)))
theorem tw_rd {post : Int32 → Prop} {j k r : Int32} (h : tx_rd m cu a2 a3 j k = some r) (hp : post r) : wpX_rightDifference post (m, nn, cu, tu, fc, ft, se, co, a1, a2, a3, a4, a5, a6) j k :=
  tw_b h (fun _ h => ⟨20, tw_rdL hp 20 _ _ h⟩) (fun _ h => ⟨20, tw_rdL hp 20 _ _ h⟩)
theorem tw_lfL {post : Int32 → Prop} {j k r : Int32} (hp : post r) : ∀ (n : Nat) (x : Int32), tx_lfL j k a2 a3 n x = some r → wX_leftFits_7 post j k m nn cu tu fc ft se co a1 a2 a3 a4 a5 a6 n x := by
  intro n
  induction n with
  | zero => intro _ h; exact tw_no h
  | succ n ih =>
    intro x h
    exact tw_b h (fun _ h => by cases h; exact hp) (fun _ h => tw_gI h fun h => tw_gI h fun h => tw_b h (fun _ h => nm_e (tw_foI h fun h => ih _ h)) (fun _ h => by cases h; exact hp))
theorem tw_lf {post : Int32 → Prop} {j k r : Int32} (h : tx_lf cu a2 a3 j k = some r) (hp : post r) : wpX_leftFits post (m, nn, cu, tu, fc, ft, se, co, a1, a2, a3, a4, a5, a6) j k := by
  unfold wpX_leftFits
  exact nm_e (tw_foI h fun h => ⟨20, tw_lfL hp 20 _ h⟩)
theorem tw_seL {post : Int32 → Prop} {x2 x5 r : Int32} (hp : post r) : ∀ (n : Nat) (x6 x7 x8 : Int32), tx_seL m nn cu a2 a3 x2 x5 n x6 x7 x8 = some r → wX_search_57 post x2 x5 m nn cu tu fc ft se co a1 a2 a3 a4 a5 a6 n x6 x7 x8 := by
  intro n
  induction n with
  | zero => intro _ _ _ h; exact tw_no h
  | succ n ih =>
    intro x6 x7 x8 h
    refine tw_b h (fun _ h => by cases h; exact hp) (fun _ h => tw_b h (fun _ h => by cases h; exact hp) (fun _ h => tw_biI h fun r1 h1 h => tw_rd h1 ?_))
    refine tw_b h (fun _ h => tw_biI h fun q h2 h => tw_lf h2 ?_) (fun _ h => nm_e (nm_e (tw_foI h fun h => tw_foI h fun h => ih _ _ _ h)))
    exact tw_b h (fun _ h => nm_e (tw_foI h fun h => tw_b h (fun _ h => nm_e (tw_foI h fun h => ih _ _ _ h)) (fun _ h => nm_e (nm_e (tw_foI h fun h => tw_foI h fun h => ih _ _ _ h))))) (fun _ h => by cases h; exact hp)
theorem tw_se {post : Int32 → Prop} {p r : Int32} (h : tx_se m nn cu tu a2 a3 p = some r) (hp : post r) : wpX_search post (m, nn, cu, tu, fc, ft, se, co, a1, a2, a3, a4, a5, a6) p := by
  unfold wpX_search
  refine tw_biI h fun q h1 h => tw_per h1 ?_
  refine nm_e (tw_foI h fun h => ?_)
  exact tw_b h (fun _ h => tw_b h (fun _ h => nm_e (tw_foI h fun h => ⟨60, tw_seL hp 60 _ _ _ h⟩)) (fun _ h => nm_e (tw_foI h fun h => ⟨60, tw_seL hp 60 _ _ _ h⟩))) (fun _ h => ⟨60, tw_seL hp 60 _ _ _ h⟩)
theorem tw_faL {post : St2 → Prop} {r : Int32} {k : List Int32} (hp : post (m, nn, cu, tu, fc, ft, 1, r, a1, a2, a3, tw_f k, a5, a6)) : ∀ (n : Nat) (x1 x2 c : Int32) (l : List Int32), tx_faL m nn cu tu a2 a3 n x1 x2 c l = some (r, k) → wX_findAll_37 post m nn cu tu fc ft se n x1 x2 c a1 a2 a3 (tw_f l) a5 a6 := by
  intro n
  induction n with
  | zero => intro _ _ _ _ h; exact tw_no h
  | succ n ih =>
    intro x1 x2 c l h
    refine tw_b h (fun _ h => by cases h; exact hp) (fun _ h => tw_b h (fun _ h => by cases h; exact hp) (fun _ h => tw_gI h fun h => tw_stI h fun h => nm_e (tw_foI h fun h => tw_biI h fun q h1 h => tw_se h1 ?_)))
    exact nm_e (tw_foI h fun h => ih _ _ _ _ h)
theorem tw_fa {post : St2 → Prop} {r : Int32} {w p w' p' : List Int32} (h : tx_fa m nn a1 a2 w p = some (r, w', p')) (hp : ∀ cu tu fc ft : Int32, post (m, nn, cu, tu, fc, ft, 1, r, a1, a2, tw_f w', tw_f p', a5, a6)) : wpX_findAll post (m, nn, cu, tu, fc, ft, 0, co, a1, a2, tw_f w, tw_f p, a5, a6) := by
  refine br_t rfl (tw_b h (fun _ h => tw_no h) (fun _ h => tw_blI h fun v h1 h => tw_rot h1 ?_))
  refine tw_b4I h fun c t fc ft h2 h => tw_cut h2 ?_
  refine tw_biI h fun q h3 h => tw_se h3 ?_
  refine tw_bpI h fun r1 l1 h4 h => ⟨60, tw_faL ?_ 60 _ _ _ _ h4⟩
  cases h
  exact hp c t fc ft
theorem tw_fa1 {post : St2 → Prop} (hp : post (m, nn, cu, tu, fc, ft, 1, co, a1, a2, a3, a4, a5, a6)) : wpX_findAll post (m, nn, cu, tu, fc, ft, 1, co, a1, a2, a3, a4, a5, a6) :=
  br_f (by decide) hp
theorem tw_occ {post : Int32 → St2 → Prop} {r : Int32} {w p w' p' : List Int32} (h : tx_fa m nn a1 a2 w p = some (r, w', p')) (hp : ∀ cu tu fc ft : Int32, post r (m, nn, cu, tu, fc, ft, 1, r, a1, a2, tw_f w', tw_f p', a5, a6)) : wpX_occurrences post (m, nn, cu, tu, fc, ft, 0, co, a1, a2, tw_f w, tw_f p, a5, a6) := by
  unfold wpX_occurrences
  exact tw_fa h hp
end
end
section
/-! Mirrors of the other methods, and their lemmas. -/
def tx_fbi (a1 a5 : Nat → Int32) (x1 : Int32) : Nat → Int32 → Int32 → Option Int32
  | 0 => fun _ _ => none
  | n + 1 => fun x2 x3 => if 16 ≤ x3 then some x2 else if x2 < 0 then some x2 else tw_g x2 16 (tw_g (x1 - 1) 16 (
      if a1 x2.toNatClampNeg = a1 (x1 - 1).toNatClampNeg then some x2 else tw_g x2 17 (tw_fo (a5 x2.toNatClampNeg) (fun x2 => tw_fo (x3 + 1) (fun x3 => tx_fbi a1 a5 x1 n x2 x3)))))
def tx_fbL (m : Int32) (a1 : Nat → Int32) : Nat → Int32 → List Int32 → Option (List Int32)
  | 0 => fun _ _ => none
  | n + 1 => fun x1 l => if m < x1 then some l else tw_g (x1 - 1) 17 (tw_fo (tw_f l (x1 - 1).toNatClampNeg) (fun b => tw_bi (tx_fbi a1 (tw_f l) x1 20 b 0) (fun b =>
      tw_g x1 17 (tw_st l x1.toNatClampNeg (b + 1) (fun l => tw_fo (x1 + 1) (fun x1 => tw_fl l (fun l => tx_fbL m a1 n x1 l)))))))
def tx_fb (m : Int32) (a1 : Nat → Int32) (l : List Int32) : Option (List Int32) := tw_st l 0 (-1) (fun l => tx_fbL m a1 20 1 l)
def tx_period (m : Int32) (a1 : Nat → Int32) (l : List Int32) : Option (Int32 × List Int32) :=
  if m = 0 then none else tw_bl (tx_fb m a1 l) (fun l => tw_g m 17 (some (m - tw_f l m.toNatClampNeg, l)))
def tx_border (m : Int32) (a1 : Nat → Int32) (l : List Int32) (p : Int32) : Option (Int32 × List Int32) :=
  if p < 1 then none else if p ≤ m then tw_bl (tx_fb m a1 l) (fun l => tw_g p 17 (some (tw_f l p.toNatClampNeg, l))) else none
def tx_psL (a5 : Nat → Int32) : Nat → Int32 → Int32 → Int32 → Option Int32
  | 0 => fun _ _ _ => none
  | n + 1 => fun x1 x2 x3 => if 16 ≤ x3 then some x1 else if x2 ≤ 0 then some x1 else tw_g x2 17 (tw_fo (x1 + 1) (fun x1 => tw_fo (a5 x2.toNatClampNeg) (fun x2 => tw_fo (x3 + 1) (fun x3 => tx_psL a5 n x1 x2 x3))))
def tx_ps (m : Int32) (a1 : Nat → Int32) (l : List Int32) : Option (Int32 × List Int32) :=
  tw_bl (tx_fb m a1 l) (fun l => tw_bi (tx_psL (tw_f l) 20 0 m 0) (fun r => some (r, l)))
def tx_apL (m co : Int32) (a4 : Nat → Int32) : Nat → Int32 → Int32 → Int32 → Option Int32
  | 0 => fun _ _ _ => none
  | n + 1 => fun x1 x2 x3 => if co ≤ x3 then some x1 else tw_g x3 48 (if a4 x3.toNatClampNeg < x2 then tw_fo (x3 + 1) (fun x3 => tx_apL m co a4 n x1 x2 x3)
      else tw_g x3 48 (tw_fo (x1 + 1) (fun x1 => tw_fo (a4 x3.toNatClampNeg + m) (fun x2 => tw_fo (x3 + 1) (fun x3 => tx_apL m co a4 n x1 x2 x3)))))
def tx_cvL (m co : Int32) (a4 : Nat → Int32) : Nat → Int32 → Int32 → Int32 → Option Int32
  | 0 => fun _ _ _ => none
  | n + 1 => fun x1 x2 x3 => if co ≤ x3 then some x1 else tw_g x3 48 (if a4 x3.toNatClampNeg ≤ x2 then
        tw_g x3 48 (tw_fo (x1 + a4 x3.toNatClampNeg + m - x2) (fun x1 => tw_g x3 48 (tw_fo (a4 x3.toNatClampNeg + m) (fun x2 => tw_fo (x3 + 1) (fun x3 => tx_cvL m co a4 n x1 x2 x3)))))
      else tw_g x3 48 (tw_g x3 48 (tw_fo (x1 + a4 x3.toNatClampNeg + m - a4 x3.toNatClampNeg) (fun x1 => tw_g x3 48 (tw_fo (a4 x3.toNatClampNeg + m) (fun x2 => tw_fo (x3 + 1) (fun x3 => tx_cvL m co a4 n x1 x2 x3)))))))
def tx_rfL (m nn : Int32) (a1 a2 : Nat → Int32) : Nat → Int32 → Int32 → List Int32 → Option (Int32 × List Int32)
  | 0 => fun _ _ _ => none
  | n + 1 => fun x1 x2 w => if m ≤ x2 then some (x1, w) else tw_bl (tx_rot m x2 a1 w) (fun w => tw_b4 (tx_cut m (tw_f w)) (fun cu tu _ _ => tw_bi (tx_se m nn cu tu a2 (tw_f w) 0) (fun r =>
      if r < 0 then tw_fo (x2 + 1) (fun x2 => tx_rfL m nn a1 a2 n x1 x2 w) else tw_fo (x1 + 1) (fun x1 => tw_fo (x2 + 1) (fun x2 => tx_rfL m nn a1 a2 n x1 x2 w)))))
def tx_ovi (m : Int32) (a1 a2 a5 : Nat → Int32) (x2 : Int32) : Nat → Int32 → Int32 → Option Int32
  | 0 => fun _ _ => none
  | n + 1 => fun x1 x3 => if 16 < x3 then some x1 else if x1 < 0 then some x1 else if x1 = m then
        tw_g x1 17 (tw_fo (a5 x1.toNatClampNeg) (fun x1 => tw_fo (x3 + 1) (fun x3 => tx_ovi m a1 a2 a5 x2 n x1 x3)))
      else tw_g x1 16 (tw_g x2 48 (if a1 x1.toNatClampNeg = a2 x2.toNatClampNeg then some x1 else
        tw_g x1 17 (tw_fo (a5 x1.toNatClampNeg) (fun x1 => tw_fo (x3 + 1) (fun x3 => tx_ovi m a1 a2 a5 x2 n x1 x3)))))
def tx_ovL (m nn : Int32) (a1 a2 a5 : Nat → Int32) : Nat → Int32 → Int32 → Option Int32
  | 0 => fun _ _ => none
  | n + 1 => fun x1 x2 => if nn ≤ x2 then (if m = 0 then some 0 else some x1) else if x1 = m then
        (if m = 0 then none else tw_g m 17 (tw_fo (a5 m.toNatClampNeg) (fun x1 => tw_bi (tx_ovi m a1 a2 a5 x2 20 x1 0) (fun k => tw_fo (k + 1) (fun x1 => tw_fo (x2 + 1) (fun x2 => tx_ovL m nn a1 a2 a5 n x1 x2))))))
      else tw_bi (tx_ovi m a1 a2 a5 x2 20 x1 0) (fun k => tw_fo (k + 1) (fun x1 => tw_fo (x2 + 1) (fun x2 => tx_ovL m nn a1 a2 a5 n x1 x2)))
def tx_ov (m nn : Int32) (a1 a2 : Nat → Int32) (l : List Int32) : Option (Int32 × List Int32) :=
  tw_bl (tx_fb m a1 l) (fun l => tw_bi (tx_ovL m nn a1 a2 (tw_f l) 60 0 0) (fun r => some (r, l)))
def tx_tuL (m : Int32) (a1 : Nat → Int32) : Nat → Int32 → Int32 → Option Int32
  | 0 => fun _ _ => none
  | n + 1 => fun x2 x3 => if 3 ≤ x3 then tw_g x2 16 (some (a1 x2.toNatClampNeg)) else if x2 < m then tw_g x2 16 (some (a1 x2.toNatClampNeg)) else
      tw_fo (x2 - m) (fun x2 => tw_fo (x3 + 1) (fun x3 => tx_tuL m a1 n x2 x3))
def tx_lrL (m : Int32) (a1 : Nat → Int32) : Nat → Int32 → Int32 → Int32 → Int32 → Option Int32
  | 0 => fun _ _ _ _ => none
  | n + 1 => fun x1 x2 x3 x4 => if 80 ≤ x4 then (if x2 ≤ x1 then some x2 else some x1) else if m ≤ x1 then (if x2 ≤ x1 then some x2 else some x1)
      else if m ≤ x2 then (if x2 ≤ x1 then some x2 else some x1) else if m ≤ x3 then (if x2 ≤ x1 then some x2 else some x1) else
      tw_fo (x1 + x3) (fun y1 => tw_bi (tx_tuL m a1 5 y1 0) (fun p => tw_fo (x2 + x3) (fun y2 => tw_bi (tx_tuL m a1 5 y2 0) (fun q =>
        if p = q then tw_fo (x3 + 1) (fun x3 => tw_fo (x4 + 1) (fun x4 => tx_lrL m a1 n x1 x2 x3 x4))
        else if p ≤ q then tw_fo (x2 + x3 + 1) (fun x2 => if x1 = x2 then tw_fo (x2 + 1) (fun x2 => tw_fo (x4 + 1) (fun x4 => tx_lrL m a1 n x1 x2 0 x4)) else tw_fo (x4 + 1) (fun x4 => tx_lrL m a1 n x1 x2 0 x4))
        else tw_fo (x1 + x3 + 1) (fun x1 => if x1 = x2 then tw_fo (x2 + 1) (fun x2 => tw_fo (x4 + 1) (fun x4 => tx_lrL m a1 n x1 x2 0 x4)) else tw_fo (x4 + 1) (fun x4 => tx_lrL m a1 n x1 x2 0 x4))))))
def tx_lr (m : Int32) (a1 : Nat → Int32) : Option Int32 := if m = 0 then none else tx_lrL m a1 90 0 1 0 0
def tx_cf3 (x5 x6 : Int32) : Nat → Int32 → Int32 → Int32 → List Int32 → Option (Int32 × Int32 × List Int32)
  | 0 => fun _ _ _ _ => none
  | n + 1 => fun x1 x2 x7 l => if 16 ≤ x7 then some (x1, x2, l) else if x5 < x2 then some (x1, x2, l) else
      tw_g x1 16 (tw_st l x1.toNatClampNeg x6 (fun l => tw_fo (x1 + 1) (fun x1 => tw_fo (x2 + x6) (fun x2 => tw_fo (x7 + 1) (fun x7 => tx_cf3 x5 x6 n x1 x2 x7 l)))))
def tx_cf2 (m : Int32) (a1 : Nat → Int32) (x2 : Int32) : Nat → Int32 → Int32 → Int32 → Option (Int32 × Int32)
  | 0 => fun _ _ _ => none
  | n + 1 => fun x4 x5 x6 => if 16 ≤ x6 then some (x4, x5) else if m ≤ x4 then some (x4, x5) else tw_g x5 16 (tw_g x4 16 (
      if a1 x4.toNatClampNeg < a1 x5.toNatClampNeg then some (x4, x5) else tw_g x5 16 (tw_g x4 16 (
        if a1 x4.toNatClampNeg ≤ a1 x5.toNatClampNeg then tw_fo (x5 + 1) (fun x5 => tw_fo (x4 + 1) (fun x4 => tw_fo (x6 + 1) (fun x6 => tx_cf2 m a1 x2 n x4 x5 x6)))
        else tw_fo (x4 + 1) (fun x4 => tw_fo (x6 + 1) (fun x6 => tx_cf2 m a1 x2 n x4 x2 x6))))))
def tx_cfL (m : Int32) (a1 : Nat → Int32) : Nat → Int32 → Int32 → Int32 → List Int32 → Option (Int32 × List Int32)
  | 0 => fun _ _ _ _ => none
  | n + 1 => fun x1 x2 x3 l => if 16 ≤ x3 then some (x1, l) else if m ≤ x2 then some (x1, l) else tw_fo (x2 + 1) (fun x4 =>
      tw_b2 (tx_cf2 m a1 x2 20 x4 x2 0) (fun x4 x5 => tw_fo (x4 - x5) (fun x6 => tw_bq (tx_cf3 x5 x6 20 x1 x2 0 l) (fun x1 x2 l => tw_fo (x3 + 1) (fun x3 => tx_cfL m a1 n x1 x2 x3 l)))))
def tx_cf (m : Int32) (a1 : Nat → Int32) (l : List Int32) : Option (Int32 × List Int32) := tx_cfL m a1 20 0 0 0 l
def tx_fct (m : Int32) (a1 : Nat → Int32) (l : List Int32) (p : Int32) : Option (Int32 × List Int32) :=
  tw_bp (tx_cf m a1 l) (fun r l => if p < 0 then none else if p < r then tw_g p 16 (some (tw_f l p.toNatClampNeg, l)) else none)
section
variable {m nn cu tu fc ft se co : Int32} {a1 a2 a3 a4 a5 a6 : Nat → Int32}
theorem tw_fbi {post : St2 → Prop} {J : Int32 → (Nat → Int32) → (Nat → Int32) → (Nat → Int32) → (Nat → Int32) → (Nat → Int32) → (Nat → Int32) → Prop} {x1 b : Int32} (hp : wX_fillBorders_68 post J x1 b m nn cu tu fc ft se co a1 a2 a3 a4 a5 a6) : ∀ (n : Nat) (x2 x3 : Int32), tx_fbi a1 a5 x1 n x2 x3 = some b → wX_fillBorders_28 post J x1 m nn cu tu fc ft se co a1 a2 a3 a4 a5 a6 n x2 x3 := by
  intro n
  induction n with
  | zero => intro _ _ h; exact tw_no h
  | succ n ih =>
    intro x2 x3 h
    exact tw_b h (fun _ h => by cases h; exact hp) (fun _ h => tw_b h (fun _ h => by cases h; exact hp) (fun _ h => tw_gI h fun h => tw_gI h fun h => tw_b h (fun _ h => by cases h; exact hp)
      (fun _ h => tw_gI h fun h => nm_e (nm_e (tw_foI h fun h => tw_foI h fun h => ih _ _ h)))))
theorem tw_fbL {post : St2 → Prop} {r : List Int32} (hp : post (m, nn, cu, tu, fc, ft, se, co, a1, a2, a3, a4, tw_f r, a6)) : ∀ (n : Nat) (x1 : Int32) (l : List Int32), tx_fbL m a1 n x1 l = some r → wX_fillBorders_9 post m nn cu tu fc ft se co n x1 a1 a2 a3 a4 (tw_f l) a6 := by
  intro n
  induction n with
  | zero => intro _ _ h; exact tw_no h
  | succ n ih =>
    intro x1 l h
    refine tw_b h (fun _ h => by cases h; exact hp) (fun _ h => tw_gI h fun h => nm_e (tw_foI h fun h => tw_biI h fun b h1 h => ⟨20, tw_fbi ?_ 20 _ _ h1⟩))
    exact tw_gI h fun h => tw_stI h fun h => nm_e (tw_foI h fun h => tw_flI h fun h => ih _ _ h)
theorem tw_fb {post : St2 → Prop} {l r : List Int32} (h : tx_fb m a1 l = some r) (hp : post (m, nn, cu, tu, fc, ft, se, co, a1, a2, a3, a4, tw_f r, a6)) : wpX_fillBorders post (m, nn, cu, tu, fc, ft, se, co, a1, a2, a3, a4, tw_f l, a6) := by
  unfold wpX_fillBorders
  exact tw_stI h fun h => ⟨20, tw_fbL hp 20 _ _ h⟩
theorem tw_period {post : Int32 → St2 → Prop} {r : Int32} {l k : List Int32} (h : tx_period m a1 l = some (r, k)) (hp : post r (m, nn, cu, tu, fc, ft, se, co, a1, a2, a3, a4, tw_f k, a6)) : wpX_period post (m, nn, cu, tu, fc, ft, se, co, a1, a2, a3, a4, tw_f l, a6) := by
  refine tw_b h (fun _ h => tw_no h) (fun _ h => tw_blI h fun v h1 h => tw_fb h1 ?_)
  exact tw_gI h fun h => by cases h; exact hp
theorem tw_border {post : Int32 → St2 → Prop} {r p : Int32} {l k : List Int32} (h : tx_border m a1 l p = some (r, k)) (hp : post r (m, nn, cu, tu, fc, ft, se, co, a1, a2, a3, a4, tw_f k, a6)) : wpX_border post (m, nn, cu, tu, fc, ft, se, co, a1, a2, a3, a4, tw_f l, a6) p := by
  refine tw_b h (fun _ h => tw_no h) (fun _ h => tw_b h (fun _ h => tw_blI h fun v h1 h => tw_fb h1 ?_) (fun _ h => tw_no h))
  exact tw_gI h fun h => by cases h; exact hp
theorem tw_psL {post : Int32 → St2 → Prop} {r : Int32} (hp : post r (m, nn, cu, tu, fc, ft, se, co, a1, a2, a3, a4, a5, a6)) : ∀ (n : Nat) (x1 x2 x3 : Int32), tx_psL a5 n x1 x2 x3 = some r → wX_periods_13 post m nn cu tu fc ft se co a1 a2 a3 a4 a5 a6 n x1 x2 x3 := by
  intro n
  induction n with
  | zero => intro _ _ _ h; exact tw_no h
  | succ n ih =>
    intro x1 x2 x3 h
    exact tw_b h (fun _ h => by cases h; exact hp) (fun _ h => tw_b h (fun _ h => by cases h; exact hp) (fun _ h => nm_e (tw_gI h fun h => nm_e (nm_e (tw_foI h fun h => tw_foI h fun h => tw_foI h fun h => ih _ _ _ h)))))
theorem tw_ps {post : Int32 → St2 → Prop} {r : Int32} {l k : List Int32} (h : tx_ps m a1 l = some (r, k)) (hp : post r (m, nn, cu, tu, fc, ft, se, co, a1, a2, a3, a4, tw_f k, a6)) : wpX_periods post (m, nn, cu, tu, fc, ft, se, co, a1, a2, a3, a4, tw_f l, a6) := by
  unfold wpX_periods
  refine tw_blI h fun v h1 h => tw_fb h1 ?_
  refine tw_biI h fun q h2 h => ⟨20, tw_psL ?_ 20 _ _ _ h2⟩
  cases h
  exact hp
theorem tw_apL {post : Int32 → St2 → Prop} {r : Int32} (hp : post r (m, nn, cu, tu, fc, ft, se, co, a1, a2, a3, a4, a5, a6)) : ∀ (n : Nat) (x1 x2 x3 : Int32), tx_apL m co a4 n x1 x2 x3 = some r → wX_apart_10 post m nn cu tu fc ft se co a1 a2 a3 a4 a5 a6 n x1 x2 x3 := by
  intro n
  induction n with
  | zero => intro _ _ _ h; exact tw_no h
  | succ n ih =>
    intro x1 x2 x3 h
    exact tw_b h (fun _ h => by cases h; exact hp) (fun _ h => tw_gI h fun h => tw_b h (fun _ h => nm_e (tw_foI h fun h => ih _ _ _ h)) (fun _ h => nm_e (tw_gI h fun h => nm_e (nm_e (tw_foI h fun h => tw_foI h fun h => tw_foI h fun h => ih _ _ _ h)))))
theorem tw_ap {post : Int32 → St2 → Prop} {r : Int32} (h : tx_apL m co a4 60 0 0 0 = some r) (hp : post r (m, nn, cu, tu, fc, ft, 1, co, a1, a2, a3, a4, a5, a6)) : wpX_apart post (m, nn, cu, tu, fc, ft, 1, co, a1, a2, a3, a4, a5, a6) := by
  unfold wpX_apart
  exact tw_fa1 ⟨60, tw_apL hp 60 _ _ _ h⟩
theorem tw_cvL {post : Int32 → St2 → Prop} {r : Int32} (hp : post r (m, nn, cu, tu, fc, ft, se, co, a1, a2, a3, a4, a5, a6)) : ∀ (n : Nat) (x1 x2 x3 : Int32), tx_cvL m co a4 n x1 x2 x3 = some r → wX_covered_10 post m nn cu tu fc ft se co a1 a2 a3 a4 a5 a6 n x1 x2 x3 := by
  intro n
  induction n with
  | zero => intro _ _ _ h; exact tw_no h
  | succ n ih =>
    intro x1 x2 x3 h
    exact tw_b h (fun _ h => by cases h; exact hp) (fun _ h => tw_gI h fun h => tw_b h
      (fun _ h => tw_gI h fun h => nm_e (tw_foI h fun h => tw_gI h fun h => nm_e (nm_e (tw_foI h fun h => tw_foI h fun h => ih _ _ _ h))))
      (fun _ h => tw_gI h fun h => tw_gI h fun h => nm_e (tw_foI h fun h => tw_gI h fun h => nm_e (nm_e (tw_foI h fun h => tw_foI h fun h => ih _ _ _ h)))))
theorem tw_cv {post : Int32 → St2 → Prop} {r : Int32} (h : tx_cvL m co a4 60 0 0 0 = some r) (hp : post r (m, nn, cu, tu, fc, ft, 1, co, a1, a2, a3, a4, a5, a6)) : wpX_covered post (m, nn, cu, tu, fc, ft, 1, co, a1, a2, a3, a4, a5, a6) := by
  unfold wpX_covered
  exact tw_fa1 ⟨60, tw_cvL hp 60 _ _ _ h⟩
theorem tw_rfL {post : Int32 → St2 → Prop} {r : Int32} {k : List Int32} (hp : ∀ cu tu fc ft : Int32, post r (m, nn, cu, tu, fc, ft, se, co, a1, a2, tw_f k, a4, a5, a6)) : ∀ (n : Nat) (x1 x2 cu tu fc ft : Int32) (w : List Int32), tx_rfL m nn a1 a2 n x1 x2 w = some (r, k) → wX_rotationsFound_4 post n x1 x2 m nn cu tu fc ft se co a1 a2 (tw_f w) a4 a5 a6 := by
  intro n
  induction n with
  | zero => intro _ _ _ _ _ _ _ h; exact tw_no h
  | succ n ih =>
    intro x1 x2 cu tu fc ft w h
    refine tw_b h (fun _ h => by cases h; exact hp _ _ _ _) (fun _ h => tw_blI h fun v h1 h => tw_rot h1 ?_)
    refine tw_b4I h fun c t d e h2 h => tw_cut h2 ?_
    refine tw_biI h fun q h3 h => tw_se h3 ?_
    exact tw_b h (fun _ h => nm_e (tw_foI h fun h => ih _ _ _ _ _ _ _ h)) (fun _ h => nm_e (nm_e (tw_foI h fun h => tw_foI h fun h => ih _ _ _ _ _ _ _ h)))
theorem tw_rf {post : Int32 → St2 → Prop} {r : Int32} {w k : List Int32} (h : tx_rfL m nn a1 a2 20 0 0 w = some (r, k)) (hp : ∀ cu tu fc ft : Int32, post r (m, nn, cu, tu, fc, ft, se, co, a1, a2, tw_f k, a4, a5, a6)) : wpX_rotationsFound post (m, nn, cu, tu, fc, ft, se, co, a1, a2, tw_f w, a4, a5, a6) :=
  ⟨20, tw_rfL hp 20 _ _ _ _ _ _ _ h⟩
theorem tw_ovi {post : Int32 → St2 → Prop} {J : Int32 → Int32 → Prop} {x2 k : Int32} (hp : J (k + 1) (x2 + 1)) : ∀ (n : Nat) (x1 x3 : Int32), tx_ovi m a1 a2 a5 x2 n x1 x3 = some k → wX_overlap_47 post J x2 m nn cu tu fc ft se co a1 a2 a3 a4 a5 a6 n x1 x3 := by
  intro n
  induction n with
  | zero => intro _ _ h; exact tw_no h
  | succ n ih =>
    intro x1 x3 h
    exact tw_b h (fun _ h => nm_e (nm_e (by cases h; exact hp))) (fun _ h => tw_b h (fun _ h => nm_e (nm_e (by cases h; exact hp))) (fun _ h => tw_b h
      (fun _ h => tw_gI h fun h => nm_e (nm_e (tw_foI h fun h => tw_foI h fun h => ih _ _ h)))
      (fun _ h => tw_gI h fun h => tw_gI h fun h => tw_b h (fun _ h => nm_e (nm_e (by cases h; exact hp))) (fun _ h => tw_gI h fun h => nm_e (nm_e (tw_foI h fun h => tw_foI h fun h => ih _ _ h))))))
theorem tw_ovL {post : Int32 → St2 → Prop} {r : Int32} (hp : post r (m, nn, cu, tu, fc, ft, se, co, a1, a2, a3, a4, a5, a6)) : ∀ (n : Nat) (x1 x2 : Int32), tx_ovL m nn a1 a2 a5 n x1 x2 = some r → wX_overlap_8 post m nn cu tu fc ft se co a1 a2 a3 a4 a5 a6 n x1 x2 := by
  intro n
  induction n with
  | zero => intro _ _ h; exact tw_no h
  | succ n ih =>
    intro x1 x2 h
    refine tw_b h (fun _ h => tw_b h (fun _ h => by cases h; exact hp) (fun _ h => by cases h; exact hp)) (fun _ h => tw_b h
      (fun _ h => tw_b h (fun _ h => tw_no h) (fun _ h => tw_gI h fun h => nm_e (tw_foI h fun h => tw_biI h fun k h1 h => ⟨20, tw_ovi ?_ 20 _ _ h1⟩)))
      (fun _ h => tw_biI h fun k h1 h => ⟨20, tw_ovi ?_ 20 _ _ h1⟩))
    · exact tw_foI h fun h => tw_foI h fun h => ih _ _ h
    · exact tw_foI h fun h => tw_foI h fun h => ih _ _ h
theorem tw_ov {post : Int32 → St2 → Prop} {r : Int32} {l k : List Int32} (h : tx_ov m nn a1 a2 l = some (r, k)) (hp : post r (m, nn, cu, tu, fc, ft, se, co, a1, a2, a3, a4, tw_f k, a6)) : wpX_overlap post (m, nn, cu, tu, fc, ft, se, co, a1, a2, a3, a4, tw_f l, a6) := by
  unfold wpX_overlap
  refine tw_blI h fun v h1 h => tw_fb h1 ?_
  refine tw_biI h fun q h2 h => ⟨60, tw_ovL ?_ 60 _ _ h2⟩
  cases h
  exact hp
theorem tw_tuL {post : Int32 → Prop} {r : Int32} (hp : post r) : ∀ (n : Nat) (x2 x3 : Int32), tx_tuL m a1 n x2 x3 = some r → wX_turned_4 post m nn cu tu fc ft se co a1 a2 a3 a4 a5 a6 n x2 x3 := by
  intro n
  induction n with
  | zero => intro _ _ h; exact tw_no h
  | succ n ih =>
    intro x2 x3 h
    exact tw_b h (fun _ h => tw_gI h fun h => by cases h; exact hp) (fun _ h => tw_b h (fun _ h => tw_gI h fun h => by cases h; exact hp) (fun _ h => nm_e (nm_e (tw_foI h fun h => tw_foI h fun h => ih _ _ h))))
theorem tw_tu {post : Int32 → Prop} {p r : Int32} (h : tx_tuL m a1 5 p 0 = some r) (hp : post r) : wpX_turned post (m, nn, cu, tu, fc, ft, se, co, a1, a2, a3, a4, a5, a6) p :=
  ⟨5, tw_tuL hp 5 _ _ h⟩
theorem tw_lre {post : Int32 → Prop} {x1 x2 r : Int32} (h : (if x2 ≤ x1 then some x2 else some x1) = some r) (hp : post r) : wX_leastRotation_119 post x1 x2 m nn cu tu fc ft se co a1 a2 a3 a4 a5 a6 := by
  unfold wX_leastRotation_119
  exact tw_b h (fun _ h => by cases h; exact hp) (fun _ h => by cases h; exact hp)
theorem tw_lrL {post : Int32 → Prop} {r : Int32} (hp : post r) : ∀ (n : Nat) (x1 x2 x3 x4 : Int32), tx_lrL m a1 n x1 x2 x3 x4 = some r → wX_leastRotation_19 post m nn cu tu fc ft se co a1 a2 a3 a4 a5 a6 n x1 x2 x3 x4 := by
  intro n
  induction n with
  | zero => intro _ _ _ _ h; exact tw_no h
  | succ n ih =>
    intro x1 x2 x3 x4 h
    refine tw_b h (fun _ h => tw_lre h hp) (fun _ h => tw_b h (fun _ h => tw_lre h hp) (fun _ h => tw_b h (fun _ h => tw_lre h hp) (fun _ h => tw_b h (fun _ h => tw_lre h hp) (fun _ h =>
      tw_foI h fun h => tw_biI h fun p h1 h => tw_tu h1 (tw_foI h fun h => tw_biI h fun q h2 h => tw_tu h2 ?_)))))
    refine tw_b h (fun _ h => nm_e (nm_e (tw_foI h fun h => tw_foI h fun h => ih _ _ _ _ h))) (fun _ h => tw_b h (fun _ h => nm_e (tw_foI h fun h => ?_)) (fun _ h => nm_e (tw_foI h fun h => ?_)))
    · exact tw_b h (fun _ h => nm_e (nm_e (tw_foI h fun h => tw_foI h fun h => ih _ _ _ _ h))) (fun _ h => nm_e (tw_foI h fun h => ih _ _ _ _ h))
    · exact tw_b h (fun _ h => nm_e (nm_e (tw_foI h fun h => tw_foI h fun h => ih _ _ _ _ h))) (fun _ h => nm_e (tw_foI h fun h => ih _ _ _ _ h))
theorem tw_lr {post : Int32 → Prop} {r : Int32} (h : tx_lr m a1 = some r) (hp : post r) : wpX_leastRotation post (m, nn, cu, tu, fc, ft, se, co, a1, a2, a3, a4, a5, a6) :=
  tw_b h (fun _ h => tw_no h) (fun _ h => ⟨90, tw_lrL hp 90 _ _ _ _ h⟩)
theorem tw_cf3 {post : Int32 → St2 → Prop} {J : Int32 → Int32 → Int32 → (Nat → Int32) → (Nat → Int32) → (Nat → Int32) → (Nat → Int32) → (Nat → Int32) → (Nat → Int32) → Prop} {x3 x5 x6 p q : Int32} {k : List Int32} (hp : J p q (x3 + 1) a1 a2 a3 a4 a5 (tw_f k)) : ∀ (n : Nat) (x1 x2 x7 : Int32) (l : List Int32), tx_cf3 x5 x6 n x1 x2 x7 l = some (p, q, k) → wX_cutFactors_110 post J x3 x5 x6 m nn cu tu fc ft se co n x1 x2 x7 a1 a2 a3 a4 a5 (tw_f l) := by
  intro n
  induction n with
  | zero => intro _ _ _ _ h; exact tw_no h
  | succ n ih =>
    intro x1 x2 x7 l h
    exact tw_b h (fun _ h => nm_e (by cases h; exact hp)) (fun _ h => tw_b h (fun _ h => nm_e (by cases h; exact hp)) (fun _ h => tw_gI h fun h => tw_stI h fun h => nm_e (nm_e (nm_e (tw_foI h fun h => tw_foI h fun h => tw_foI h fun h => ih _ _ _ _ h)))))
theorem tw_cf2 {post : Int32 → St2 → Prop} {J : Int32 → Int32 → Int32 → (Nat → Int32) → (Nat → Int32) → (Nat → Int32) → (Nat → Int32) → (Nat → Int32) → (Nat → Int32) → Prop} {x1 x2 x3 p q : Int32} (hp : ∃ fu : Nat, wX_cutFactors_110 post J x3 q (p - q) m nn cu tu fc ft se co fu x1 x2 0 a1 a2 a3 a4 a5 a6) : ∀ (n : Nat) (x4 x5 x6 : Int32), tx_cf2 m a1 x2 n x4 x5 x6 = some (p, q) → wX_cutFactors_31 post J x1 x2 x3 m nn cu tu fc ft se co a1 a2 a3 a4 a5 a6 n x4 x5 x6 := by
  intro n
  induction n with
  | zero => intro _ _ _ h; exact tw_no h
  | succ n ih =>
    intro x4 x5 x6 h
    exact tw_b h (fun _ h => nm_e (by cases h; exact hp)) (fun _ h => tw_b h (fun _ h => nm_e (by cases h; exact hp)) (fun _ h => tw_gI h fun h => tw_gI h fun h => tw_b h (fun _ h => nm_e (by cases h; exact hp)) (fun _ h => tw_gI h fun h => tw_gI h fun h => tw_b h
      (fun _ h => nm_e (nm_e (nm_e (tw_foI h fun h => tw_foI h fun h => tw_foI h fun h => ih _ _ _ h))))
      (fun _ h => nm_e (nm_e (tw_foI h fun h => tw_foI h fun h => ih _ _ _ h))))))
theorem tw_cfL {post : Int32 → St2 → Prop} {r : Int32} {k : List Int32} (hp : post r (m, nn, cu, tu, fc, ft, se, co, a1, a2, a3, a4, a5, tw_f k)) : ∀ (n : Nat) (x1 x2 x3 : Int32) (l : List Int32), tx_cfL m a1 n x1 x2 x3 l = some (r, k) → wX_cutFactors_6 post m nn cu tu fc ft se co n x1 x2 x3 a1 a2 a3 a4 a5 (tw_f l) := by
  intro n
  induction n with
  | zero => intro _ _ _ _ h; exact tw_no h
  | succ n ih =>
    intro x1 x2 x3 l h
    refine tw_b h (fun _ h => by cases h; exact hp) (fun _ h => tw_b h (fun _ h => by cases h; exact hp) (fun _ h => nm_e (tw_foI h fun h => tw_b2I h fun p q h1 h => ⟨20, tw_cf2 ?_ 20 _ _ _ h1⟩)))
    refine tw_foI h fun h => tw_bqI h fun y1 y2 l2 h2 h => ⟨20, tw_cf3 ?_ 20 _ _ _ _ h2⟩
    exact tw_foI h fun h => ih _ _ _ _ h
theorem tw_cf {post : Int32 → St2 → Prop} {r : Int32} {l k : List Int32} (h : tx_cf m a1 l = some (r, k)) (hp : post r (m, nn, cu, tu, fc, ft, se, co, a1, a2, a3, a4, a5, tw_f k)) : wpX_cutFactors post (m, nn, cu, tu, fc, ft, se, co, a1, a2, a3, a4, a5, tw_f l) :=
  ⟨20, tw_cfL hp 20 _ _ _ _ h⟩
theorem tw_fcs {post : Int32 → St2 → Prop} {r : Int32} {l k : List Int32} (h : tx_cf m a1 l = some (r, k)) (hp : post r (m, nn, cu, tu, fc, ft, se, co, a1, a2, a3, a4, a5, tw_f k)) : wpX_factors post (m, nn, cu, tu, fc, ft, se, co, a1, a2, a3, a4, a5, tw_f l) := by
  unfold wpX_factors
  exact tw_cf h hp
theorem tw_fct {post : Int32 → St2 → Prop} {r p : Int32} {l k : List Int32} (h : tx_fct m a1 l p = some (r, k)) (hp : post r (m, nn, cu, tu, fc, ft, se, co, a1, a2, a3, a4, a5, tw_f k)) : wpX_factor post (m, nn, cu, tu, fc, ft, se, co, a1, a2, a3, a4, a5, tw_f l) p := by
  unfold wpX_factor
  refine tw_bpI h fun q v h1 h => tw_cf h1 ?_
  exact tw_b h (fun _ h => tw_no h) (fun _ h => tw_b h (fun _ h => tw_gI h fun h => by cases h; exact hp) (fun _ h => tw_no h))
end
end
section
/-! The mirror of the law behind the letters, without `from`; the kernel runs it on the 27 triples. -/
def tx_406 (m z0 z1 : Int32) (l1 l6 : List Int32) : Option Unit :=
  if z1 = z0 then tw_bp (tx_cf m (tw_f l1) l6) (fun r f => if r < 2 then none else tw_bp (tx_fct m (tw_f l1) f 0) (fun r _ => if 3 < r then none else some ())) else none
def tx_334 (m nn co x z flat start z0 z1 : Int32) (l1 l2 w pl b l6 : List Int32) : Option Unit :=
  if z1 = z0 then tw_bi (tx_apL m co (tw_f pl) 60 0 0 0) (fun r => if r = 2 then
    tw_bi (tx_cvL m co (tw_f pl) 60 0 0 0) (fun r => if r = 15 then
    tw_bp (tx_rfL m nn (tw_f l1) (tw_f l2) 20 0 0 w) (fun r _ => if r = 6 then
    tw_bp (tx_ov m nn (tw_f l1) (tw_f l2) b) (fun r b => if r = 6 then
    tw_bi (tx_lr m (tw_f l1)) (fun r => if r = start then
    tw_bp (tx_border m (tw_f l1) b 3) (fun r _ => if flat = 0 then (if x = z then tx_406 m 1 r l1 l6 else tx_406 m 0 r l1 l6) else tx_406 m 2 r l1 l6)
    else none) else none) else none) else none) else none) else none
def tx_nxt (m nn co x z flat step start : Int32) (l1 l2 w pl b l6 : List Int32) : Option Unit :=
  tw_bp (tx_period m (tw_f l1) b) (fun r b => if r = step then
    tw_bp (tx_border m (tw_f l1) b 6) (fun r b => if r = 6 - step then
    tw_bp (tx_ps m (tw_f l1) b) (fun r b => if flat = 0 then (if x = z then tx_334 m nn co x z flat start 3 r l1 l2 w pl b l6 else tx_334 m nn co x z flat start 2 r l1 l2 w pl b l6) else tx_334 m nn co x z flat start 6 r l1 l2 w pl b l6)
    else none) else none)
def tx_240 (m nn x z x6 flat step start : Int32) (l1 l2 l3 l4 l5 l6 : List Int32) : Option Unit :=
  if x6 = 15 then (if m = 6 then
    tw_br (tx_fa m nn (tw_f l1) (tw_f l2) l3 l4) (fun co w pl => if flat = 0 then
        (if co = 4 then (if (List.range 4).all (fun k => decide (tw_f pl k = nI (3 * k))) = true then tx_nxt m nn co x z flat step start l1 l2 w pl l5 l6 else none) else none)
      else (if co = 10 then (if (List.range 10).all (fun k => decide (tw_f pl k = nI k)) = true then tx_nxt m nn co x z flat step start l1 l2 w pl l5 l6 else none) else none))
    else none) else none
def tx_125 (m nn x y z x6 flat step : Int32) (l1 l2 l3 l4 l5 l6 : List Int32) : Option Unit :=
  if ((9 * x) + (3 * y)) + z ≤ ((9 * y) + (3 * z)) + x then
    (if ((9 * x) + (3 * y)) + z ≤ ((9 * z) + (3 * x)) + y then tx_240 m nn x z x6 flat step 0 l1 l2 l3 l4 l5 l6 else tx_240 m nn x z x6 flat step 2 l1 l2 l3 l4 l5 l6)
  else (if ((9 * y) + (3 * z)) + x ≤ ((9 * z) + (3 * x)) + y then tx_240 m nn x z x6 flat step 1 l1 l2 l3 l4 l5 l6 else tx_240 m nn x z x6 flat step 2 l1 l2 l3 l4 l5 l6)
def tx_113 (m nn x y z x6 flat : Int32) (l1 l2 l3 l4 l5 l6 : List Int32) : Option Unit :=
  if flat = 0 then tx_125 m nn x y z x6 flat 3 l1 l2 l3 l4 l5 l6 else tx_125 m nn x y z x6 flat 1 l1 l2 l3 l4 l5 l6
def tx_fed (m nn x y z : Int32) (l1 l2 l3 l4 l5 l6 : List Int32) : Option Unit :=
  tw_bp (tx_fp m nn (tw_f l1) l2) (fun nn l2 => tw_bp (tx_fp m nn (tw_f l1) l2) (fun nn l2 =>
    tw_bp (tx_feed x nn l2) (fun nn l2 => tw_bp (tx_feed y nn l2) (fun nn l2 => tw_bp (tx_feed z nn l2) (fun nn l2 =>
      if x = y then (if y = z then tx_113 m nn x y z nn 1 l1 l2 l3 l4 l5 l6 else tx_113 m nn x y z nn 0 l1 l2 l3 l4 l5 l6) else tx_113 m nn x y z nn 0 l1 l2 l3 l4 l5 l6)))))
def tx_top (x y z : Int32) : Option Unit :=
  tw_bp (tx_pat x 0 (List.replicate 16 0)) (fun m l => tw_bp (tx_pat y m l) (fun m l => tw_bp (tx_pat z m l) (fun m l =>
  tw_bp (tx_pat x m l) (fun m l => tw_bp (tx_pat y m l) (fun m l => tw_bp (tx_pat z m l) (fun m l =>
    tx_fed m 0 x y z l (List.replicate 48 0) (List.replicate 16 0) (List.replicate 48 0) (List.replicate 17 0) (List.replicate 16 0)))))))
end
section
def tx_27 : Bool := ([0, 1, 2] : List Int32).all (fun x => ([0, 1, 2] : List Int32).all (fun y => ([0, 1, 2] : List Int32).all (fun z => decide (tx_top x y z = some ()))))
theorem tx_27t : tx_27 = true := by decide +kernel
theorem tx_ok {x y z : Int32} (hx : x ∈ ([0, 1, 2] : List Int32)) (hy : y ∈ ([0, 1, 2] : List Int32)) (hz : z ∈ ([0, 1, 2] : List Int32)) : tx_top x y z = some () := by
  have h := tx_27t
  unfold tx_27 at h
  have h1 := List.all_eq_true.mp h x hx
  have h2 := List.all_eq_true.mp h1 y hy
  have h3 := List.all_eq_true.mp h2 z hz
  exact of_decide_eq_true h3
end
section
/-! next(from), and the law's own steps. -/
/-- what the law expects of next(from): flat, from, the answer -/
def tw_at (flat x1 a : Int32) : Prop := (¬ 0 < x1 ∧ a = 0) ∨ (¬ x1 ≤ 9 ∧ a = -4) ∨ (∃ f : Nat, 1 ≤ f ∧ f ≤ 9 ∧ x1 = nI f ∧ (flat = 0 → a = nI (3 * ((f + 2) / 3))) ∧ (¬ flat = 0 → a = nI f))
theorem tw_nlt {x : Int32} {k : Nat} (h : ¬ x ≤ 9) (hk : k ≤ 9) : nI k < x := by
  rw [Int32.le_iff_toInt_le] at h
  rw [Int32.lt_iff_toInt_lt, nI_toInt (by omega)]
  have e : (9 : Int32).toInt = 9 := by decide
  omega
theorem tw_div : ∀ f, f < 10 → (nI f + 2) / 3 * 3 = nI (3 * ((f + 2) / 3)) := by decide +kernel
section
variable {m nn cu tu fc ft se co : Int32} {a1 a2 a3 a4 a5 a6 : Nat → Int32}
theorem tw_nextL {post : Int32 → St2 → Prop} {x1 : Int32} {c d : Nat} (hc : c ≤ 48) (hd : d ≤ c) (hlt : ∀ k, k < d → a4 k < x1) (hge : d < c → ¬ a4 d < x1) (h1 : d < c → post (a4 d) (m, nn, cu, tu, fc, ft, se, nI c, a1, a2, a3, a4, a5, a6)) (h2 : d = c → post (-4) (m, nn, cu, tu, fc, ft, se, nI c, a1, a2, a3, a4, a5, a6)) : ∃ n, wX_next_6 post x1 m nn cu tu fc ft se (nI c) a1 a2 a3 a4 a5 a6 n 0 :=
  pk_loop (σ := Unit) (fun n i _ => wX_next_6 post x1 m nn cu tu fc ft se (nI c) a1 a2 a3 a4 a5 a6 n (nI i)) (fun _ _ => True) d 0 () (by omega) trivial
    (fun n _ _ => pk_le c d (fun z => h2 (by omega)) (fun z => ⟨pk_in d 48 (by omega), br_f (by rw [nI_clamp (by omega)]; exact hge z) ⟨pk_in d 48 (by omega), by rw [nI_clamp (by omega)]; exact h1 z⟩⟩))
    (fun n i _ hi _ hw => pk_le c i (fun z => absurd z (by omega)) (fun z => ⟨pk_in i 48 (by omega), br_t (by rw [nI_clamp (by omega)]; exact hlt i hi) (nm_r (nI_1 i) (hw () trivial))⟩))
theorem tw_next {post : Int32 → St2 → Prop} {x1 : Int32} {c d : Nat} (hc : c ≤ 48) (hd : d ≤ c) (hlt : ∀ k, k < d → a4 k < x1) (hge : d < c → ¬ a4 d < x1) (h1 : d < c → post (a4 d) (m, nn, cu, tu, fc, ft, 1, nI c, a1, a2, a3, a4, a5, a6)) (h2 : d = c → post (-4) (m, nn, cu, tu, fc, ft, 1, nI c, a1, a2, a3, a4, a5, a6)) : wpX_next post (m, nn, cu, tu, fc, ft, 1, nI c, a1, a2, a3, a4, a5, a6) x1 := by
  unfold wpX_next
  exact tw_fa1 (tw_nextL hc hd hlt hge h1 h2)
theorem tw_nx1 {post : Int32 → St2 → Prop} {flat x1 a : Int32} (hf : ¬ flat = 0) (hat : tw_at flat x1 a) (hpl : ∀ k, k < 10 → a4 k = nI k) (hp : post a (m, nn, cu, tu, fc, ft, 1, 10, a1, a2, a3, a4, a5, a6)) : wpX_next post (m, nn, cu, tu, fc, ft, 1, 10, a1, a2, a3, a4, a5, a6) x1 := by
  rcases hat with ⟨h, rfl⟩ | ⟨h, rfl⟩ | ⟨f, f1, f2, rfl, _, h⟩
  · refine tw_next (c := 10) (d := 0) (by omega) (by omega) (fun k hk => absurd hk (by omega)) (fun _ => ?_) (fun _ => ?_) (fun z => absurd z (by omega))
    · rw [hpl 0 (by omega), nI_0]
      exact h
    · rw [hpl 0 (by omega), nI_0]
      exact hp
  · refine tw_next (c := 10) (d := 10) (by omega) (by omega) (fun k hk => ?_) (fun z => absurd z (by omega)) (fun z => absurd z (by omega)) (fun _ => hp)
    rw [hpl k hk]
    exact tw_nlt h (by omega)
  · have e := h hf
    subst e
    refine tw_next (c := 10) (d := f) (by omega) (by omega) (fun k hk => ?_) (fun _ => ?_) (fun _ => ?_) (fun z => absurd z (by omega))
    · rw [hpl k (by omega)]
      exact nI_lt hk (by omega)
    · rw [hpl f (by omega)]
      exact nI_nlt (by omega) (by omega)
    · rw [hpl f (by omega)]
      exact hp
theorem tw_nx3 {post : Int32 → St2 → Prop} {flat x1 a : Int32} (hf : flat = 0) (hat : tw_at flat x1 a) (hpl : ∀ k, k < 4 → a4 k = nI (3 * k)) (hp : post a (m, nn, cu, tu, fc, ft, 1, 4, a1, a2, a3, a4, a5, a6)) : wpX_next post (m, nn, cu, tu, fc, ft, 1, 4, a1, a2, a3, a4, a5, a6) x1 := by
  rcases hat with ⟨h, rfl⟩ | ⟨h, rfl⟩ | ⟨f, f1, f2, rfl, h, _⟩
  · refine tw_next (c := 4) (d := 0) (by omega) (by omega) (fun k hk => absurd hk (by omega)) (fun _ => ?_) (fun _ => ?_) (fun z => absurd z (by omega))
    · rw [hpl 0 (by omega)]
      exact h
    · rw [hpl 0 (by omega)]
      exact hp
  · refine tw_next (c := 4) (d := 4) (by omega) (by omega) (fun k hk => ?_) (fun z => absurd z (by omega)) (fun z => absurd z (by omega)) (fun _ => hp)
    rw [hpl k hk]
    exact tw_nlt h (by omega)
  · have e := h hf
    subst e
    refine tw_next (c := 4) (d := (f + 2) / 3) (by omega) (by omega) (fun k hk => ?_) (fun _ => ?_) (fun _ => ?_) (fun z => absurd z (by omega))
    · rw [hpl k (by omega)]
      exact nI_lt (by omega) (by omega)
    · rw [hpl _ (by omega)]
      exact nI_nlt (by omega) (by omega)
    · rw [hpl _ (by omega)]
      exact hp
variable {post : Int32 → St0 → Prop} {mc ms kc ks : Nat} {l1 l2 l3 l4 l5 l6 : List Int32}
theorem tw_406 {z0 z1 : Int32} (h : tx_406 m z0 z1 l1 l6 = some ()) (hp : post 1 ()) : wL_lawOf_406 post mc ms z0 z1 kc ks m nn cu tu fc ft se co (tw_f l1) a2 a3 a4 a5 (tw_f l6) := by
  unfold wL_lawOf_406
  refine tw_b h (fun _ h => tw_bpI h fun r f h1 h => tw_fcs h1 ?_) (fun _ h => tw_no h)
  refine tw_b h (fun _ h => tw_no h) (fun _ h => tw_bpI h fun r f h2 h => tw_fct h2 ?_)
  exact tw_b h (fun _ h => tw_no h) (fun _ _ => hp)
theorem tw_334 {x z flat start z0 z1 : Int32} (h : tx_334 m nn co x z flat start z0 z1 l1 l2 l3 l4 l5 l6 = some ()) (hp : post 1 ()) : wL_lawOf_334 post mc ms x z flat start z0 z1 kc ks m nn cu tu fc ft 1 co (tw_f l1) (tw_f l2) (tw_f l3) (tw_f l4) (tw_f l5) (tw_f l6) := by
  unfold wL_lawOf_334
  refine tw_b h (fun _ h => tw_biI h fun r h1 h => tw_ap h1 ?_) (fun _ h => tw_no h)
  refine tw_b h (fun _ h => tw_biI h fun r h1 h => tw_cv h1 ?_) (fun _ h => tw_no h)
  refine tw_b h (fun _ h => tw_bpI h fun r k h1 h => tw_rf h1 (fun cu tu fc ft => ?_)) (fun _ h => tw_no h)
  refine tw_b h (fun _ h => tw_bpI h fun r k h1 h => tw_ov h1 ?_) (fun _ h => tw_no h)
  refine tw_b h (fun _ h => tw_biI h fun r h1 h => tw_lr h1 ?_) (fun _ h => tw_no h)
  refine tw_b h (fun _ h => tw_bpI h fun r k h1 h => tw_border h1 ?_) (fun _ h => tw_no h)
  exact tw_b h (fun _ h => tw_b h (fun _ h => tw_406 h hp) (fun _ h => tw_406 h hp)) (fun _ h => tw_406 h hp)
theorem tw_273 {x1 x z flat step start a z0 : Int32} (hn : ∀ Q : Int32 → St2 → Prop, Q a (m, nn, cu, tu, fc, ft, 1, co, tw_f l1, tw_f l2, tw_f l3, tw_f l4, tw_f l5, tw_f l6) → wpX_next Q (m, nn, cu, tu, fc, ft, 1, co, tw_f l1, tw_f l2, tw_f l3, tw_f l4, tw_f l5, tw_f l6) x1)
    (h : tx_nxt m nn co x z flat step start l1 l2 l3 l4 l5 l6 = some ()) (hp : post 1 ()) : wL_lawOf_273 post mc ms x1 x z flat step start a z0 z0 kc ks m nn cu tu fc ft 1 co (tw_f l1) (tw_f l2) (tw_f l3) (tw_f l4) (tw_f l5) (tw_f l6) := by
  unfold wL_lawOf_273
  refine br_t rfl (hn _ ?_)
  refine br_t rfl (tw_bpI h fun r k h1 h => tw_period h1 ?_)
  refine tw_b h (fun _ h => tw_bpI h fun r k h1 h => tw_border h1 ?_) (fun _ h => tw_no h)
  refine tw_b h (fun _ h => tw_bpI h fun r k h1 h => tw_ps h1 ?_) (fun _ h => tw_no h)
  exact tw_b h (fun _ h => tw_b h (fun _ h => tw_334 h hp) (fun _ h => tw_334 h hp)) (fun _ h => tw_334 h hp)
theorem tw_240 {x1 x z x6 flat step start a : Int32} (hat : tw_at flat x1 a) (h : tx_240 m nn x z x6 flat step start l1 l2 l3 l4 l5 l6 = some ()) (hp : post 1 ()) : wL_lawOf_240 post mc ms x1 x z x6 flat step start a kc ks m nn cu tu fc ft 0 co (tw_f l1) (tw_f l2) (tw_f l3) (tw_f l4) (tw_f l5) (tw_f l6) := by
  unfold wL_lawOf_240
  refine tw_b h (fun _ h => ?_) (fun _ h => tw_no h)
  unfold wpX_patternLength
  refine tw_b h (fun _ h => tw_brI h fun c w p h1 h => tw_occ h1 (fun cu tu fc ft => ?_)) (fun _ h => tw_no h)
  refine tw_b h (fun hf h => ?_) (fun hf h => ?_)
  · by_cases hc : c = 4
    · subst hc
      rw [if_pos rfl] at h
      by_cases hk : (List.range 4).all (fun k => decide (tw_f p k = nI (3 * k))) = true
      · rw [if_pos hk] at h
        exact tw_273 (fun Q hQ => tw_nx3 hf hat (fun k hk4 => co_dec (P := fun k => tw_f p k = nI (3 * k)) hk hk4) hQ) h hp
      · rw [if_neg hk] at h
        exact tw_no h
    · rw [if_neg hc] at h
      exact tw_no h
  · by_cases hc : c = 10
    · subst hc
      rw [if_pos rfl] at h
      by_cases hk : (List.range 10).all (fun k => decide (tw_f p k = nI k)) = true
      · rw [if_pos hk] at h
        exact tw_273 (fun Q hQ => tw_nx1 hf hat (fun k hk4 => co_dec (P := fun k => tw_f p k = nI k) hk hk4) hQ) h hp
      · rw [if_neg hk] at h
        exact tw_no h
    · rw [if_neg hc] at h
      exact tw_no h
theorem tw_203 {x1 x z x6 flat step start : Int32} (h : tx_240 m nn x z x6 flat step start l1 l2 l3 l4 l5 l6 = some ()) (hp : post 1 ()) : wL_lawOf_203 post mc ms x1 x z x6 flat step start kc ks m nn cu tu fc ft 0 co (tw_f l1) (tw_f l2) (tw_f l3) (tw_f l4) (tw_f l5) (tw_f l6) := by
  unfold wL_lawOf_203
  refine br_c (fun g => br_c (fun g2 => ?_) (fun g2 => tw_240 (.inr (.inl ⟨g2, rfl⟩)) h hp)) (fun g => tw_240 (.inl ⟨g, rfl⟩) h hp)
  have g0 : ¬ x1 < 0 := by
    rw [Int32.lt_iff_toInt_lt] at g ⊢
    omega
  obtain ⟨f, f9, rfl⟩ := nI_of2 (M := 9) (n := 9) (by decide) g0 g2
  have f1 : 1 ≤ f := by
    rcases Nat.eq_zero_or_pos f with e | e
    · subst e
      exact absurd g (by decide)
    · exact e
  exact br_c (fun hf => ⟨by decide, tw_240 (.inr (.inr ⟨f, f1, f9, rfl, fun _ => tw_div f (by omega), fun z => absurd hf z⟩)) h hp⟩) (fun hf => tw_240 (.inr (.inr ⟨f, f1, f9, rfl, fun z => absurd z hf, fun _ => rfl⟩)) h hp)
theorem tw_125 {x1 x y z x6 flat step : Int32} (h : tx_125 m nn x y z x6 flat step l1 l2 l3 l4 l5 l6 = some ()) (hp : post 1 ()) : wL_lawOf_125 post mc ms x1 x y z x6 flat step kc ks m nn cu tu fc ft 0 co (tw_f l1) (tw_f l2) (tw_f l3) (tw_f l4) (tw_f l5) (tw_f l6) := by
  unfold wL_lawOf_125
  exact nm_e (nm_e (nm_e (tw_b h (fun _ h => tw_b h (fun _ h => tw_203 h hp) (fun _ h => tw_203 h hp)) (fun _ h => tw_b h (fun _ h => tw_203 h hp) (fun _ h => tw_203 h hp)))))
theorem tw_113 {x1 x y z x6 flat : Int32} (h : tx_113 m nn x y z x6 flat l1 l2 l3 l4 l5 l6 = some ()) (hp : post 1 ()) : wL_lawOf_113 post mc ms x1 x y z x6 flat kc ks m nn cu tu fc ft 0 co (tw_f l1) (tw_f l2) (tw_f l3) (tw_f l4) (tw_f l5) (tw_f l6) := by
  unfold wL_lawOf_113
  exact tw_b h (fun _ h => tw_125 h hp) (fun _ h => tw_125 h hp)
theorem tw_112 {x1 x y z x6 : Int32} (h : tx_113 m nn x y z x6 0 l1 l2 l3 l4 l5 l6 = some ()) (hp : post 1 ()) : wL_lawOf_112 post mc ms x1 x y z x6 kc ks m nn cu tu fc ft 0 co (tw_f l1) (tw_f l2) (tw_f l3) (tw_f l4) (tw_f l5) (tw_f l6) := by
  unfold wL_lawOf_112
  exact tw_113 h hp
theorem tw_32 {x1 x y z : Int32} (h : tx_top x y z = some ()) (hp : post 1 ()) : wL_lawOf_32 post mc ms x1 x y z kc ks 3 0 0 0 cu tu fc ft se co (tw_f (List.replicate 16 0)) (tw_f (List.replicate 48 0)) (tw_f (List.replicate 16 0)) (tw_f (List.replicate 48 0)) (tw_f (List.replicate 17 0)) (tw_f (List.replicate 16 0)) := by
  refine tw_bpI h fun m1 k1 h1 h => tw_bpI h fun m2 k2 h2 h => tw_bpI h fun m3 k3 h3 h => tw_bpI h fun m4 k4 h4 h => tw_bpI h fun m5 k5 h5 h => tw_bpI h fun m6 k6 h6 h => ?_
  refine br_f (by decide) (tw_pat h1 ?_)
  refine tw_pat h2 ?_
  refine tw_pat h3 ?_
  refine nm_e ?_
  refine br_f (by decide) (tw_pat h4 ?_)
  refine tw_pat h5 ?_
  refine tw_pat h6 ?_
  refine nm_e ?_
  refine br_t (by decide) (tw_bpI h fun n1 j1 g1 h => tw_fp g1 ?_)
  refine tw_bpI h fun n2 j2 g2 h => tw_fp g2 ?_
  refine tw_bpI h fun n3 j3 g3 h => tw_feed g3 ?_
  refine tw_bpI h fun n4 j4 g4 h => tw_feed g4 ?_
  refine tw_bpI h fun n5 j5 g5 h => tw_feed g5 ?_
  exact tw_b h (fun _ h => tw_b h (fun _ h => tw_113 h hp) (fun _ h => tw_112 h hp)) (fun _ h => tw_112 h hp)
end
theorem tw_letter {post : Int32 → Prop} {p : Int32} (hp : ∀ x, x ∈ ([0, 1, 2] : List Int32) → post x) : wpL_letter post () p := by
  unfold wpL_letter
  refine nm_e (br_c (fun _ => hp 0 (by decide)) (fun h => hp _ ?_))
  obtain ⟨j, hj, e⟩ := pk_andE p (m := 3) 2 (by decide)
  rw [e] at h ⊢
  match j, hj with
  | 0, _ => decide
  | 1, _ => decide
  | 2, _ => decide
  | 3, _ => exact absurd rfl h
theorem tw_cell {post : Int32 → Prop} {L : Nat} {xs : Nat → Int32} {i : Nat} (hL : L ≤ 2) (hi : i < 2) (hp : ∀ x, post x) : wpL_cellAt post L xs () (nI i) := by
  unfold wpL_cellAt
  exact pk_le L i (fun _ => hp _) (fun z => ⟨pk_in i L z, hp _⟩)
theorem i_vc (xs : Nat → Int32) (L : Nat) (hL : L ≤ 2) : wpL_law (fun r => r = 1) L xs := by
  unfold wpL_law
  refine tw_cell (i := 0) hL (by omega) (fun d => ?_)
  refine tw_cell (i := 1) hL (by omega) (fun f => ?_)
  refine ⟨102, 1632, by omega, by omega, ?_⟩
  unfold wpL_lawOf
  refine ⟨by omega, by omega, 6, 161, by omega, by omega, ?_⟩
  refine ⟨by omega, by omega, by omega, by omega, by omega, by omega, by omega, by omega, by omega, by omega, by omega, by omega, ?_⟩
  refine tw_letter (fun x hx => ?_)
  refine tw_letter (fun y hy => ?_)
  refine tw_letter (fun z hz => ?_)
  have e := tw_32 (post := fun r_3 _ => r_3 = 1) (mc := 102) (ms := 1632) (kc := 1 + 6) (ks := 14 + 161) (x1 := f) (cu := 0) (tu := 0) (fc := 0) (ft := 0) (se := 0) (co := 0) (tx_ok hx hy hz) rfl
  simp only [tw_f_rep] at e
  exact ⟨3, e⟩
end
