section
/-! The heap's control as data: six numbers and seven lists (all arrays but the values), run by plain programs. -/
abbrev th_C : Type := Int32 × Int32 × Int32 × Int32 × Int32 × Int32 × List Int32 × List Int32 × List Int32 × List Int32 × List Int32 × List Int32 × List Int32
def th_ar (l : List Int32) : Nat → Int32 := fun j => l.getD j 0
/-- the state whose control is C and whose values are v -/
abbrev th_em (C : th_C) (v : Nat → Int32) : St2 := (C.1, C.2.1, C.2.2.1, C.2.2.2.1, C.2.2.2.2.1, C.2.2.2.2.2.1, th_ar C.2.2.2.2.2.2.1, th_ar C.2.2.2.2.2.2.2.1, th_ar C.2.2.2.2.2.2.2.2.1, v, th_ar C.2.2.2.2.2.2.2.2.2.1, th_ar C.2.2.2.2.2.2.2.2.2.2.1, th_ar C.2.2.2.2.2.2.2.2.2.2.2.1, th_ar C.2.2.2.2.2.2.2.2.2.2.2.2)
theorem th_bind {α β : Type} {o : Option α} {f : α → Option β} {c : β} (h : o.bind f = some c) : ∃ y, o = some y ∧ f y = some c := by
  cases o with
  | none => cases h
  | some y => exact ⟨y, rfl, h⟩
def th_in (i : Int32) (n : Nat) : Bool := decide (¬ i < 0) && decide (i.toNatClampNeg < n)
theorem th_in_ok {i : Int32} {n : Nat} (h : th_in i n = true) : vp_in i n := by
  unfold th_in at h
  rw [Bool.and_eq_true] at h
  have h1 := of_decide_eq_true h.1
  have h2 := of_decide_eq_true h.2
  intro z
  rcases z with z | z
  · exact h1 z
  · omega
/-- a read of an array of length n -/
def th_get (l : List Int32) (i : Int32) (n : Nat) : Option Int32 := if th_in i n = true then some (l.getD i.toNatClampNeg 0) else none
theorem th_get_ok {l : List Int32} {i : Int32} {n : Nat} {y : Int32} (h : th_get l i n = some y) : vp_in i n ∧ th_ar l i.toNatClampNeg = y := by
  unfold th_get at h
  split at h
  next hc => exact ⟨th_in_ok hc, Option.some.inj h⟩
  next => cases h
/-- a write -/
def th_put (l : List Int32) (i : Int32) (n : Nat) (x : Int32) : Option (List Int32) := if (th_in i n && decide (i.toNatClampNeg < l.length)) = true then some (l.set i.toNatClampNeg x) else none
theorem th_put_ok {l : List Int32} {i : Int32} {n : Nat} {x : Int32} {m : List Int32} (h : th_put l i n x = some m) : vp_in i n ∧ upd (th_ar l) i.toNatClampNeg x = th_ar m := by
  unfold th_put at h
  split at h
  next hc =>
    rw [Bool.and_eq_true] at hc
    have h2 := of_decide_eq_true hc.2
    have e := Option.some.inj h
    refine ⟨th_in_ok hc.1, ?_⟩
    rw [← e]
    funext j
    unfold upd th_ar
    by_cases hj : j = i.toNatClampNeg
    · rw [if_pos hj, hj]
      simp [List.getD, h2]
    · rw [if_neg hj]
      simp [List.getD, List.getElem?_set, Ne.symm hj]
  next => cases h
theorem th_zero (n : Nat) : th_ar (List.replicate n 0) = fun _ => 0 := by
  funext j
  unfold th_ar
  by_cases hj : j < n
  · simp [List.getD, List.getElem?_replicate, hj]
  · simp [List.getD, List.getElem?_replicate, hj]
/-- a thread's number and a register's are in range -/
def th_ok (p0 p1 : Int32) : Bool := decide (¬ p0 < 0) && (decide (¬ 2 < p0) && (decide (¬ p1 < 0) && decide (p1 ≤ 3)))
theorem th_bad_ok {post : Int32 → Prop} {u : St2} {p0 p1 : Int32} (h : th_ok p0 p1 = true) (hp : post 0) : wpX_bad post u p0 p1 := by
  obtain ⟨b1, b2, b3, b4, b5, b6, a1, a2, a3, a4, a5, a6, a7, a8⟩ := u
  unfold th_ok at h
  rw [Bool.and_eq_true, Bool.and_eq_true, Bool.and_eq_true] at h
  exact br_f (of_decide_eq_true h.1) (br_f (of_decide_eq_true h.2.1) (br_f (of_decide_eq_true h.2.2.1) (br_t (of_decide_eq_true h.2.2.2) hp)))
theorem th_bit_ok {post : Int32 → Prop} {u : St2} (hp : post 0) : wpX_badBit post u 0 := by
  obtain ⟨b1, b2, b3, b4, b5, b6, a1, a2, a3, a4, a5, a6, a7, a8⟩ := u
  exact br_f (by decide) (br_t (by decide) hp)
end
section
/-! The collector, method by method: a plain program over the control, and that the method does what it says. -/
def th_reach (C : th_C) (p : Int32) : Option th_C := match C with
  | (ce, an, ph, bl, sw, co, l1, l2, l3, l5, l6, l7, l8) => if p < 0 then some (ce, an, ph, bl, sw, co, l1, l2, l3, l5, l6, l7, l8) else (th_get l1 p 16).bind fun y => if y = 3 - bl then (th_put l1 p 16 3).bind fun m => some (ce, an, ph, bl, sw, co, m, l2, l3, l5, l6, l7, l8) else some (ce, an, ph, bl, sw, co, l1, l2, l3, l5, l6, l7, l8)
theorem th_reach_ok {post : St2 → Prop} {C C' : th_C} {v : Nat → Int32} {p : Int32} (h : th_reach C p = some C') (hp : post (th_em C' v)) : wpX_reach post (th_em C v) p := by
  obtain ⟨ce, an, ph, bl, sw, co, l1, l2, l3, l5, l6, l7, l8⟩ := C
  unfold th_reach at h
  dsimp only at h
  split at h
  next h1 =>
    cases h
    exact br_t h1 hp
  next h1 =>
    obtain ⟨y, hy, h⟩ := th_bind h
    obtain ⟨i1, rfl⟩ := th_get_ok hy
    refine br_f h1 ⟨i1, ?_⟩
    split at h
    next h2 =>
      obtain ⟨m, hm, h⟩ := th_bind h
      obtain ⟨i2, e2⟩ := th_put_ok hm
      cases h
      refine br_t h2 ⟨i2, ?_⟩
      refine nm_r e2 ?_
      exact hp
    next h2 =>
      cases h
      exact br_f h2 hp
def th_ansL (x1 : Int32) : Nat → Int32 → th_C → Option th_C
  | 0, _, _ => none
  | n + 1, x, C => if 4 ≤ x then some C else (th_get C.2.2.2.2.2.2.2.2.2.2.1 (x1 * 4 + x) 12).bind fun q => (th_reach C q).bind fun D => th_ansL x1 n (x + 1) D
theorem th_ansL_ok {post : St2 → Prop} {C' : th_C} {v : Nat → Int32} {x1 : Int32} (hp : post (th_em C' v)) : ∀ (n : Nat) (x : Int32) (C : th_C), th_ansL x1 n x C = some C' → wX_answer_61 post x1 n x C.1 C.2.1 C.2.2.1 C.2.2.2.1 C.2.2.2.2.1 C.2.2.2.2.2.1 (th_ar C.2.2.2.2.2.2.1) (th_ar C.2.2.2.2.2.2.2.1) (th_ar C.2.2.2.2.2.2.2.2.1) v (th_ar C.2.2.2.2.2.2.2.2.2.1) (th_ar C.2.2.2.2.2.2.2.2.2.2.1) (th_ar C.2.2.2.2.2.2.2.2.2.2.2.1) (th_ar C.2.2.2.2.2.2.2.2.2.2.2.2) := by
  intro n
  induction n with
  | zero =>
    intro x C h
    unfold th_ansL at h
    cases h
  | succ n ih =>
    intro x C h
    unfold th_ansL at h
    split at h
    next h1 =>
      have e := Option.some.inj h
      subst e
      exact br_t h1 hp
    next h1 =>
      obtain ⟨q, hq, h⟩ := th_bind h
      obtain ⟨i1, rfl⟩ := th_get_ok hq
      obtain ⟨D, hD, h⟩ := th_bind h
      refine br_f h1 ⟨i1, ?_⟩
      refine th_reach_ok hD ?_
      refine nm_e ?_
      exact ih _ D h
abbrev th_bit (p : Int32) : Int32 := (1 : Int32) <<< (p &&& 31)
def th_answer (C : th_C) (p : Int32) : Option th_C := match C with
  | (ce, an, ph, bl, sw, co, l1, l2, l3, l5, l6, l7, l8) => if ph < 1 then some (ce, an, ph, bl, sw, co, l1, l2, l3, l5, l6, l7, l8) else if 3 < ph then some (ce, an, ph, bl, sw, co, l1, l2, l3, l5, l6, l7, l8) else if ((an >>> (p &&& 31)) &&& 1) = 1 then some (ce, an, ph, bl, sw, co, l1, l2, l3, l5, l6, l7, l8) else
    (th_put l8 p 3 ph).bind fun m => if ph = 3 then th_ansL p 5 0 (ce, an ||| th_bit p, ph, bl, sw, co, l1, l2, l3, l5, l6, l7, m) else some (ce, an ||| th_bit p, ph, bl, sw, co, l1, l2, l3, l5, l6, l7, m)
theorem th_answer_ok {post : St2 → Prop} {C C' : th_C} {v : Nat → Int32} {p : Int32} (h : th_answer C p = some C') (hp : post (th_em C' v)) : wpX_answer post (th_em C v) p := by
  obtain ⟨ce, an, ph, bl, sw, co, l1, l2, l3, l5, l6, l7, l8⟩ := C
  unfold th_answer at h
  dsimp only at h
  split at h
  next h1 =>
    cases h
    exact br_t h1 hp
  next h1 =>
    refine br_f h1 ?_
    split at h
    next h2 =>
      cases h
      exact br_t h2 hp
    next h2 =>
      refine br_f h2 ?_
      split at h
      next h3 =>
        cases h
        exact br_t h3 hp
      next h3 =>
        refine br_f h3 ?_
        obtain ⟨m, hm, h⟩ := th_bind h
        obtain ⟨i1, e1⟩ := th_put_ok hm
        refine nm_e ⟨i1, ?_⟩
        refine nm_r e1 ?_
        split at h
        next h4 =>
          refine br_t h4 ⟨5, ?_⟩
          exact th_ansL_ok hp 5 0 _ h
        next h4 =>
          cases h
          exact br_f h4 hp
def th_freeL (ce : Int32) (l1 : List Int32) : Nat → Int32 → Option Int32
  | 0, _ => none
  | n + 1, x => if ce ≤ x then some (-1) else (th_get l1 x 16).bind fun y => if y = 0 then some x else th_freeL ce l1 n (x + 1)
theorem th_freeL_ok {post : Int32 → Prop} {C : th_C} {v : Nat → Int32} {r : Int32} (hp : post r) : ∀ (n : Nat) (x : Int32), th_freeL C.1 C.2.2.2.2.2.2.1 n x = some r → wX_freeCell_2 post C.1 C.2.1 C.2.2.1 C.2.2.2.1 C.2.2.2.2.1 C.2.2.2.2.2.1 (th_ar C.2.2.2.2.2.2.1) (th_ar C.2.2.2.2.2.2.2.1) (th_ar C.2.2.2.2.2.2.2.2.1) v (th_ar C.2.2.2.2.2.2.2.2.2.1) (th_ar C.2.2.2.2.2.2.2.2.2.2.1) (th_ar C.2.2.2.2.2.2.2.2.2.2.2.1) (th_ar C.2.2.2.2.2.2.2.2.2.2.2.2) n x := by
  intro n
  induction n with
  | zero =>
    intro x h
    unfold th_freeL at h
    cases h
  | succ n ih =>
    intro x h
    unfold th_freeL at h
    split at h
    next h1 =>
      have e := Option.some.inj h
      subst e
      exact br_t h1 hp
    next h1 =>
      obtain ⟨y, hy, h⟩ := th_bind h
      obtain ⟨i1, rfl⟩ := th_get_ok hy
      refine br_f h1 ⟨i1, ?_⟩
      split at h
      next h2 =>
        have e := Option.some.inj h
        subst e
        exact br_t h2 hp
      next h2 =>
        refine br_f h2 (nm_e ?_)
        exact ih _ h
def th_free (C : th_C) : Option Int32 := th_freeL C.1 C.2.2.2.2.2.2.1 17 0
theorem th_free_ok {post : Int32 → Prop} {C : th_C} {v : Nat → Int32} {r : Int32} (h : th_free C = some r) (hp : post r) : wpX_freeCell post (th_em C v) := ⟨17, th_freeL_ok hp 17 0 h⟩
def th_sweep2 (C : th_C) : th_C := match C with
  | (ce, an, ph, bl, sw, co, l1, l2, l3, l5, l6, l7, l8) => if sw + 1 = ce then (ce, an, 0, bl, 0, co, l1, l2, l3, l5, l6, l7, l8) else (ce, an, ph, bl, sw + 1, co, l1, l2, l3, l5, l6, l7, l8)
theorem th_sweep2_ok {post : St2 → Prop} {C : th_C} {v : Nat → Int32} (hp : post (th_em (th_sweep2 C) v)) : wX_sweepStep_28 post C.1 C.2.1 C.2.2.1 C.2.2.2.1 C.2.2.2.2.1 C.2.2.2.2.2.1 (th_ar C.2.2.2.2.2.2.1) (th_ar C.2.2.2.2.2.2.2.1) (th_ar C.2.2.2.2.2.2.2.2.1) v (th_ar C.2.2.2.2.2.2.2.2.2.1) (th_ar C.2.2.2.2.2.2.2.2.2.2.1) (th_ar C.2.2.2.2.2.2.2.2.2.2.2.1) (th_ar C.2.2.2.2.2.2.2.2.2.2.2.2) := by
  obtain ⟨ce, an, ph, bl, sw, co, l1, l2, l3, l5, l6, l7, l8⟩ := C
  unfold th_sweep2 at hp
  dsimp only at hp
  refine nm_e ?_
  split at hp
  next h1 => exact br_t h1 hp
  next h1 => exact br_f h1 hp
def th_sweep (C : th_C) : Option th_C := match C with
  | (ce, an, ph, bl, sw, co, l1, l2, l3, l5, l6, l7, l8) => (th_get l1 sw 16).bind fun y => if y = 3 - bl then (th_put l1 sw 16 0).bind fun m => some (th_sweep2 (ce, an, ph, bl, sw, co, m, l2, l3, l5, l6, l7, l8)) else some (th_sweep2 (ce, an, ph, bl, sw, co, l1, l2, l3, l5, l6, l7, l8))
theorem th_sweep_ok {post : St2 → Prop} {C C' : th_C} {v : Nat → Int32} (h : th_sweep C = some C') (hp : post (th_em C' v)) : wpX_sweepStep post (th_em C v) := by
  obtain ⟨ce, an, ph, bl, sw, co, l1, l2, l3, l5, l6, l7, l8⟩ := C
  unfold th_sweep at h
  dsimp only at h
  obtain ⟨y, hy, h⟩ := th_bind h
  obtain ⟨i1, rfl⟩ := th_get_ok hy
  refine ⟨i1, ?_⟩
  split at h
  next h2 =>
    obtain ⟨m, hm, h⟩ := th_bind h
    obtain ⟨i2, e2⟩ := th_put_ok hm
    have e := Option.some.inj h
    subst e
    refine br_t h2 ⟨i2, ?_⟩
    refine nm_r e2 ?_
    exact th_sweep2_ok hp
  next h2 =>
    have e := Option.some.inj h
    subst e
    refine br_f h2 ?_
    exact th_sweep2_ok hp
def th_shade (E : th_C) (x : Int32) : Option th_C := match E with
  | (ce, an, ph, bl, sw, co, l1, l2, l3, l5, l6, l7, l8) => (th_put l1 x 16 bl).bind fun m => some (ce, an, ph, bl, sw, co, m, l2, l3, l5, l6, l7, l8)
def th_mark (C : th_C) (x : Int32) : Option th_C := (th_get C.2.2.2.2.2.2.2.1 x 16).bind fun p => (th_reach C p).bind fun D => (th_get D.2.2.2.2.2.2.2.2.1 x 16).bind fun q => (th_reach D q).bind fun E => th_shade E x
def th_toSw (C : th_C) : th_C := (C.1, C.2.1, 5, C.2.2.2.1, 0, C.2.2.2.2.2.1, C.2.2.2.2.2.2.1, C.2.2.2.2.2.2.2.1, C.2.2.2.2.2.2.2.2.1, C.2.2.2.2.2.2.2.2.2.1, C.2.2.2.2.2.2.2.2.2.2.1, C.2.2.2.2.2.2.2.2.2.2.2.1, C.2.2.2.2.2.2.2.2.2.2.2.2)
def th_traceL (C : th_C) : Nat → Int32 → Int32 → Option th_C
  | 0, _, _ => none
  | n + 1, x1, x2 => if C.1 ≤ x2 then (if 0 ≤ x1 then th_mark C x1 else some (th_toSw C)) else
    (th_get C.2.2.2.2.2.2.1 x2 16).bind fun y => if y = 3 then th_traceL C n x2 (x2 + 1) else th_traceL C n x1 (x2 + 1)
theorem th_traceL_ok {post : St2 → Prop} {C C' : th_C} {v : Nat → Int32} (hp : post (th_em C' v)) : ∀ (n : Nat) (x1 x2 : Int32), th_traceL C n x1 x2 = some C' → wX_traceStep_4 post C.1 C.2.1 C.2.2.1 C.2.2.2.1 C.2.2.2.2.1 C.2.2.2.2.2.1 (th_ar C.2.2.2.2.2.2.1) (th_ar C.2.2.2.2.2.2.2.1) (th_ar C.2.2.2.2.2.2.2.2.1) v (th_ar C.2.2.2.2.2.2.2.2.2.1) (th_ar C.2.2.2.2.2.2.2.2.2.2.1) (th_ar C.2.2.2.2.2.2.2.2.2.2.2.1) (th_ar C.2.2.2.2.2.2.2.2.2.2.2.2) n x1 x2 := by
  intro n
  induction n with
  | zero =>
    intro x1 x2 h
    unfold th_traceL at h
    cases h
  | succ n ih =>
    intro x1 x2 h
    unfold th_traceL at h
    split at h
    next h1 =>
      refine br_t h1 ?_
      split at h
      next h2 =>
        refine br_t h2 ?_
        unfold th_mark at h
        obtain ⟨p, hq, h⟩ := th_bind h
        obtain ⟨i1, rfl⟩ := th_get_ok hq
        obtain ⟨D, hD, h⟩ := th_bind h
        refine ⟨i1, ?_⟩
        refine th_reach_ok hD ?_
        obtain ⟨q, hq2, h⟩ := th_bind h
        obtain ⟨i2, rfl⟩ := th_get_ok hq2
        obtain ⟨E, hE, h⟩ := th_bind h
        refine ⟨i2, ?_⟩
        refine th_reach_ok hE ?_
        obtain ⟨ce, an, ph, bl, sw, co, l1, l2, l3, l5, l6, l7, l8⟩ := E
        unfold th_shade at h
        dsimp only at h
        obtain ⟨m, hm, h⟩ := th_bind h
        obtain ⟨i3, e3⟩ := th_put_ok hm
        have e := Option.some.inj h
        subst e
        refine ⟨i3, ?_⟩
        refine nm_r e3 ?_
        exact hp
      next h2 =>
        have e := Option.some.inj h
        subst e
        exact br_f h2 hp
    next h1 =>
      obtain ⟨y, hy, h⟩ := th_bind h
      obtain ⟨i1, rfl⟩ := th_get_ok hy
      refine br_f h1 ⟨i1, ?_⟩
      split at h
      next h2 =>
        refine br_t h2 (nm_e ?_)
        exact ih _ _ h
      next h2 =>
        refine br_f h2 (nm_e ?_)
        exact ih _ _ h
def th_trace (C : th_C) : Option th_C := th_traceL C 17 (-1) 0
theorem th_trace_ok {post : St2 → Prop} {C C' : th_C} {v : Nat → Int32} (h : th_trace C = some C') (hp : post (th_em C' v)) : wpX_traceStep post (th_em C v) := ⟨17, th_traceL_ok hp 17 (-1) 0 h⟩
def th_signal (C : th_C) : Option th_C := match C with
  | (ce, an, ph, bl, sw, co, l1, l2, l3, l5, l6, l7, l8) => if an = 7 then (if ph + 1 = 4 then (th_reach (ce, 0, ph + 1, bl, sw, co, l1, l2, l3, l5, l6, l7, l8) (l7.getD 0 0)).bind fun D => th_reach D (D.2.2.2.2.2.2.2.2.2.2.2.1.getD 1 0) else some (ce, 0, ph + 1, bl, sw, co, l1, l2, l3, l5, l6, l7, l8)) else some (ce, an, ph, bl, sw, co, l1, l2, l3, l5, l6, l7, l8)
theorem th_signal_ok {post : St2 → Prop} {C C' : th_C} {v : Nat → Int32} (h : th_signal C = some C') (hp : post (th_em C' v)) : wpX_signalStep post (th_em C v) := by
  obtain ⟨ce, an, ph, bl, sw, co, l1, l2, l3, l5, l6, l7, l8⟩ := C
  unfold th_signal at h
  dsimp only at h
  split at h
  next h1 =>
    refine br_t h1 (nm_e ?_)
    split at h
    next h2 =>
      refine br_t h2 ?_
      obtain ⟨D, hD, h⟩ := th_bind h
      refine th_reach_ok hD ?_
      refine th_reach_ok h ?_
      exact hp
    next h2 =>
      cases h
      exact br_f h2 hp
  next h1 =>
    cases h
    exact br_f h1 hp
def th_step (C : th_C) : Option th_C := if C.2.2.1 = 0 then (match C with | (ce, an, ph, bl, sw, co, l1, l2, l3, l5, l6, l7, l8) => some (ce, 0, 1, 3 - bl, sw, co, l1, l2, l3, l5, l6, l7, l8)) else if 3 < C.2.2.1 then (if C.2.2.1 = 4 then th_trace C else th_sweep C) else th_signal C
theorem th_step_ok {post : St2 → Prop} {C C' : th_C} {v : Nat → Int32} (h : th_step C = some C') (hp : post (th_em C' v)) : wpX_step post (th_em C v) := by
  unfold th_step at h
  split at h
  next h1 =>
    obtain ⟨ce, an, ph, bl, sw, co, l1, l2, l3, l5, l6, l7, l8⟩ := C
    dsimp only at h
    cases h
    refine br_t h1 (nm_e ?_)
    exact hp
  next h1 =>
    refine br_f h1 ?_
    split at h
    next h2 =>
      refine br_t h2 ?_
      split at h
      next h3 =>
        refine br_t h3 ?_
        refine th_trace_ok h ?_
        exact hp
      next h3 =>
        refine br_f h3 ?_
        refine th_sweep_ok h ?_
        exact hp
    next h2 =>
      refine br_f h2 ?_
      refine th_signal_ok h ?_
      exact hp
def th_drive (C : th_C) : Option th_C := (th_answer C 0).bind fun D => (th_answer D 1).bind fun E => (th_answer E 2).bind fun F => th_step F
theorem th_drive_ok {post : St2 → Prop} {C C' : th_C} {v : Nat → Int32} (h : th_drive C = some C') (hp : post (th_em C' v)) : wpX_drive post (th_em C v) := by
  unfold th_drive at h
  unfold wpX_drive
  obtain ⟨D, hD, h⟩ := th_bind h
  obtain ⟨E, hE, h⟩ := th_bind h
  obtain ⟨F, hF, h⟩ := th_bind h
  refine th_answer_ok hD ?_
  refine th_answer_ok hE ?_
  refine th_answer_ok hF ?_
  refine th_step_ok h ?_
  exact hp
def th_drvL : Nat → Int32 → th_C → Option th_C
  | 0, _, _ => none
  | n + 1, x, C => if 80 ≤ x then some C else if C.2.2.1 = 0 then some C else (th_drive C).bind fun D => th_drvL n (x + 1) D
theorem th_drv31_ok {post : St2 → Prop} {C' : th_C} {v : Nat → Int32} (hp : post (th_em C' v)) : ∀ (n : Nat) (x : Int32) (C : th_C), th_drvL n x C = some C' → wX_collectAll_31 post n x C.1 C.2.1 C.2.2.1 C.2.2.2.1 C.2.2.2.2.1 C.2.2.2.2.2.1 (th_ar C.2.2.2.2.2.2.1) (th_ar C.2.2.2.2.2.2.2.1) (th_ar C.2.2.2.2.2.2.2.2.1) v (th_ar C.2.2.2.2.2.2.2.2.2.1) (th_ar C.2.2.2.2.2.2.2.2.2.2.1) (th_ar C.2.2.2.2.2.2.2.2.2.2.2.1) (th_ar C.2.2.2.2.2.2.2.2.2.2.2.2) := by
  intro n
  induction n with
  | zero =>
    intro x C h
    unfold th_drvL at h
    cases h
  | succ n ih =>
    intro x C h
    unfold th_drvL at h
    split at h
    next h1 =>
      have e := Option.some.inj h
      subst e
      exact br_t h1 hp
    next h1 =>
      refine br_f h1 ?_
      split at h
      next h2 =>
        have e := Option.some.inj h
        subst e
        exact br_t h2 hp
      next h2 =>
        refine br_f h2 ?_
        obtain ⟨D, hD, h⟩ := th_bind h
        refine th_drive_ok hD ?_
        refine nm_e ?_
        exact ih _ D h
theorem th_drv2_ok {post : St2 → Prop} {C' : th_C} {v : Nat → Int32} (hp : wX_collectAll_25 post C'.1 C'.2.1 C'.2.2.1 C'.2.2.2.1 C'.2.2.2.2.1 C'.2.2.2.2.2.1 (th_ar C'.2.2.2.2.2.2.1) (th_ar C'.2.2.2.2.2.2.2.1) (th_ar C'.2.2.2.2.2.2.2.2.1) v (th_ar C'.2.2.2.2.2.2.2.2.2.1) (th_ar C'.2.2.2.2.2.2.2.2.2.2.1) (th_ar C'.2.2.2.2.2.2.2.2.2.2.2.1) (th_ar C'.2.2.2.2.2.2.2.2.2.2.2.2)) : ∀ (n : Nat) (x : Int32) (C : th_C), th_drvL n x C = some C' → wX_collectAll_2 post n x C.1 C.2.1 C.2.2.1 C.2.2.2.1 C.2.2.2.2.1 C.2.2.2.2.2.1 (th_ar C.2.2.2.2.2.2.1) (th_ar C.2.2.2.2.2.2.2.1) (th_ar C.2.2.2.2.2.2.2.2.1) v (th_ar C.2.2.2.2.2.2.2.2.2.1) (th_ar C.2.2.2.2.2.2.2.2.2.2.1) (th_ar C.2.2.2.2.2.2.2.2.2.2.2.1) (th_ar C.2.2.2.2.2.2.2.2.2.2.2.2) := by
  intro n
  induction n with
  | zero =>
    intro x C h
    unfold th_drvL at h
    cases h
  | succ n ih =>
    intro x C h
    unfold th_drvL at h
    split at h
    next h1 =>
      have e := Option.some.inj h
      subst e
      exact br_t h1 hp
    next h1 =>
      refine br_f h1 ?_
      split at h
      next h2 =>
        have e := Option.some.inj h
        subst e
        exact br_t h2 hp
      next h2 =>
        refine br_f h2 ?_
        obtain ⟨D, hD, h⟩ := th_bind h
        refine th_drive_ok hD ?_
        refine nm_e ?_
        exact ih _ D h
def th_collect (C : th_C) : Option th_C := (th_drvL 81 0 C).bind fun D => (th_step D).bind fun E => th_drvL 81 0 E
theorem th_collect_ok {post : St2 → Prop} {C C' : th_C} {v : Nat → Int32} (h : th_collect C = some C') (hp : post (th_em C' v)) : wpX_collectAll post (th_em C v) := by
  unfold th_collect at h
  obtain ⟨D, hD, h⟩ := th_bind h
  obtain ⟨E, hE, h⟩ := th_bind h
  refine ⟨81, ?_⟩
  refine th_drv2_ok ?_ 81 0 C hD
  refine th_step_ok hE ?_
  refine ⟨81, ?_⟩
  exact th_drv31_ok hp 81 0 E h
end
section
/-! The calls. -/
/-- a cell is filled (at rest): the answer, the cell, the control behind it -/
def th_mk (D : th_C) (p0 p1 c : Int32) : Option (Int32 × Int32 × th_C) := match D with
  | (ce, an, ph, bl, sw, co, l1, l2, l3, l5, l6, l7, l8) => if ph < 1 then (th_put l1 c 16 bl).bind fun m1 => (th_put l2 c 16 (-1)).bind fun m2 => (th_put l3 c 16 (-1)).bind fun m3 => (th_put l5 c 16 (co + 1)).bind fun m5 => (th_put l6 (p0 * 4 + p1) 12 c).bind fun m6 =>
      some (co + 1, c, (ce, an, ph, bl, sw, co + 1, m1, m2, m3, m5, m6, l7, l8)) else none
theorem th_mk_ok {post : Int32 → St2 → Prop} {D C' : th_C} {v : Nat → Int32} {p0 p1 p2 c r c' : Int32} (h0 : 0 ≤ c) (h : th_mk D p0 p1 c = some (r, c', C')) (hp : post r (th_em C' (upd v c'.toNatClampNeg p2))) : wX_make_37 post p0 p1 p2 c D.1 D.2.1 D.2.2.1 D.2.2.2.1 D.2.2.2.2.1 D.2.2.2.2.2.1 (th_ar D.2.2.2.2.2.2.1) (th_ar D.2.2.2.2.2.2.2.1) (th_ar D.2.2.2.2.2.2.2.2.1) v (th_ar D.2.2.2.2.2.2.2.2.2.1) (th_ar D.2.2.2.2.2.2.2.2.2.2.1) (th_ar D.2.2.2.2.2.2.2.2.2.2.2.1) (th_ar D.2.2.2.2.2.2.2.2.2.2.2.2) := by
  obtain ⟨ce, an, ph, bl, sw, co, l1, l2, l3, l5, l6, l7, l8⟩ := D
  unfold th_mk at h
  dsimp only at h
  split at h
  next h1 =>
    obtain ⟨m1, hm1, h⟩ := th_bind h
    obtain ⟨m2, hm2, h⟩ := th_bind h
    obtain ⟨m3, hm3, h⟩ := th_bind h
    obtain ⟨m5, hm5, h⟩ := th_bind h
    obtain ⟨m6, hm6, h⟩ := th_bind h
    obtain ⟨i1, e1⟩ := th_put_ok hm1
    obtain ⟨i2, e2⟩ := th_put_ok hm2
    obtain ⟨i3, e3⟩ := th_put_ok hm3
    obtain ⟨i5, e5⟩ := th_put_ok hm5
    obtain ⟨i6, e6⟩ := th_put_ok hm6
    cases h
    refine br_t h0 (nm_e ⟨i1, ?_⟩)
    refine nm_r e1 ?_
    refine br_t h1 ?_
    refine ⟨i1, ?_⟩
    refine nm_r e2 ?_
    refine ⟨i1, ?_⟩
    refine nm_r e3 ?_
    refine ⟨i1, ?_⟩
    refine nm_e ?_
    refine ⟨i1, ?_⟩
    refine nm_r e5 ?_
    refine ⟨i6, ?_⟩
    refine nm_r e6 ?_
    exact hp
  next => cases h
def th_make1 (C : th_C) (p0 p1 : Int32) : Option (Int32 × Int32 × th_C) := if th_ok p0 p1 = true then (th_answer C p0).bind fun D => (th_free D).bind fun c => if 0 ≤ c then th_mk D p0 p1 c else none else none
theorem th_make1_ok {post : Int32 → St2 → Prop} {C C' : th_C} {v : Nat → Int32} {p0 p1 p2 r c : Int32} (h : th_make1 C p0 p1 = some (r, c, C')) (hp : post r (th_em C' (upd v c.toNatClampNeg p2))) : wpX_make post (th_em C v) p0 p1 p2 := by
  unfold th_make1 at h
  split at h
  next hb =>
    obtain ⟨D, hD, h⟩ := th_bind h
    obtain ⟨q, hq, h⟩ := th_bind h
    split at h
    next h0 =>
      unfold wpX_make
      refine th_bad_ok hb ?_
      refine br_t rfl ?_
      refine th_answer_ok hD ?_
      refine th_free_ok hq ?_
      refine br_t h0 ?_
      exact th_mk_ok h0 h hp
    next => cases h
  next => cases h
/-- no room, not even behind a whole round -/
def th_make0 (C : th_C) (p0 p1 : Int32) : Option th_C := if th_ok p0 p1 = true then (th_answer C p0).bind fun D => (th_free D).bind fun c => if 0 ≤ c then none else (th_collect D).bind fun E => (th_free E).bind fun c' => if 0 ≤ c' then none else some E else none
theorem th_make0_ok {post : Int32 → St2 → Prop} {C C' : th_C} {v : Nat → Int32} {p0 p1 p2 : Int32} (h : th_make0 C p0 p1 = some C') (hp : post (-2) (th_em C' v)) : wpX_make post (th_em C v) p0 p1 p2 := by
  unfold th_make0 at h
  split at h
  next hb =>
    obtain ⟨D, hD, h⟩ := th_bind h
    obtain ⟨q, hq, h⟩ := th_bind h
    split at h
    next => cases h
    next h0 =>
      obtain ⟨E, hE, h⟩ := th_bind h
      obtain ⟨q2, hq2, h⟩ := th_bind h
      split at h
      next => cases h
      next h3 =>
        have e := Option.some.inj h
        subst e
        unfold wpX_make
        refine th_bad_ok hb ?_
        refine br_t rfl ?_
        refine th_answer_ok hD ?_
        refine th_free_ok hq ?_
        refine br_f h0 ?_
        refine th_collect_ok hE ?_
        refine th_free_ok hq2 ?_
        exact br_f h3 hp
  next => cases h
def th_setR (D : th_C) (i x : Int32) : Option th_C := match D with
  | (ce, an, ph, bl, sw, co, l1, l2, l3, l5, l6, l7, l8) => (th_put l6 i 12 x).bind fun m => some (ce, an, ph, bl, sw, co, l1, l2, l3, l5, m, l7, l8)
def th_copy (C : th_C) (p0 p1 p2 : Int32) : Option th_C := if th_ok p0 p1 = true then (if th_ok p0 p2 = true then (th_answer C p0).bind fun D => (th_get D.2.2.2.2.2.2.2.2.2.2.1 (p0 * 4 + p2) 12).bind fun y => th_setR D (p0 * 4 + p1) y else none) else none
theorem th_copy_ok {post : Int32 → St2 → Prop} {C C' : th_C} {v : Nat → Int32} {p0 p1 p2 : Int32} (h : th_copy C p0 p1 p2 = some C') (hp : post 0 (th_em C' v)) : wpX_copy post (th_em C v) p0 p1 p2 := by
  unfold th_copy at h
  split at h
  next hb =>
    split at h
    next hb2 =>
      obtain ⟨D, hD, h⟩ := th_bind h
      obtain ⟨y, hy, h⟩ := th_bind h
      obtain ⟨i1, rfl⟩ := th_get_ok hy
      unfold wpX_copy
      refine th_bad_ok hb ?_
      refine br_t rfl ?_
      refine th_bad_ok hb2 ?_
      refine br_t rfl ?_
      refine th_answer_ok hD ?_
      refine ⟨i1, ?_⟩
      obtain ⟨ce, an, ph, bl, sw, co, l1, l2, l3, l5, l6, l7, l8⟩ := D
      unfold th_setR at h
      dsimp only at h
      obtain ⟨m, hm, h⟩ := th_bind h
      obtain ⟨i2, e2⟩ := th_put_ok hm
      cases h
      refine ⟨i2, ?_⟩
      refine nm_r e2 ?_
      exact hp
    next => cases h
  next => cases h
def th_drop (C : th_C) (p0 p1 : Int32) : Option th_C := if th_ok p0 p1 = true then (th_answer C p0).bind fun D => th_setR D (p0 * 4 + p1) (-1) else none
theorem th_drop_ok {post : Int32 → St2 → Prop} {C C' : th_C} {v : Nat → Int32} {p0 p1 : Int32} (h : th_drop C p0 p1 = some C') (hp : post 0 (th_em C' v)) : wpX_drop post (th_em C v) p0 p1 := by
  unfold th_drop at h
  split at h
  next hb =>
    obtain ⟨D, hD, h⟩ := th_bind h
    unfold wpX_drop
    refine th_bad_ok hb ?_
    refine br_t rfl ?_
    refine th_answer_ok hD ?_
    obtain ⟨ce, an, ph, bl, sw, co, l1, l2, l3, l5, l6, l7, l8⟩ := D
    unfold th_setR at h
    dsimp only at h
    obtain ⟨m, hm, h⟩ := th_bind h
    obtain ⟨i2, e2⟩ := th_put_ok hm
    cases h
    refine ⟨i2, ?_⟩
    refine nm_r e2 ?_
    exact hp
  next => cases h
def th_load (C : th_C) (p0 p1 p2 : Int32) : Option th_C := if th_ok p0 p1 = true then (if th_ok p0 p2 = true then (th_answer C p0).bind fun D => (th_get D.2.2.2.2.2.2.2.2.2.2.1 (p0 * 4 + p2) 12).bind fun c => if 0 ≤ c then (th_get D.2.2.2.2.2.2.2.1 c 16).bind fun y => th_setR D (p0 * 4 + p1) y else none else none) else none
theorem th_load_ok {post : Int32 → St2 → Prop} {C C' : th_C} {v : Nat → Int32} {p0 p1 p2 : Int32} (h : th_load C p0 p1 p2 = some C') (hp : post 0 (th_em C' v)) : wpX_load post (th_em C v) p0 p1 p2 0 := by
  unfold th_load at h
  split at h
  next hb =>
    split at h
    next hb2 =>
      obtain ⟨D, hD, h⟩ := th_bind h
      obtain ⟨y, hy, h⟩ := th_bind h
      obtain ⟨i1, rfl⟩ := th_get_ok hy
      split at h
      next h0 =>
        obtain ⟨z, hz, h⟩ := th_bind h
        obtain ⟨i3, rfl⟩ := th_get_ok hz
        unfold wpX_load
        refine th_bad_ok hb ?_
        refine br_t rfl ?_
        refine th_bad_ok hb2 ?_
        refine br_t rfl ?_
        refine th_bit_ok ?_
        refine br_t rfl ?_
        refine th_answer_ok hD ?_
        refine ⟨i1, ?_⟩
        refine nm_e ?_
        refine br_t h0 ?_
        refine br_t rfl ?_
        refine ⟨i3, ?_⟩
        obtain ⟨ce, an, ph, bl, sw, co, l1, l2, l3, l5, l6, l7, l8⟩ := D
        unfold th_setR at h
        dsimp only at h
        obtain ⟨m, hm, h⟩ := th_bind h
        obtain ⟨i2, e2⟩ := th_put_ok hm
        cases h
        refine ⟨i2, ?_⟩
        refine nm_r e2 ?_
        exact hp
      next => cases h
    next => cases h
  next => cases h
/-- a write is watched by a thread that answers no first or second signal -/
def th_watch (C : th_C) (p0 p1 : Int32) : Option th_C := (th_reach C p1).bind fun D => (th_get D.2.2.2.2.2.2.2.2.2.2.2.2 p0 3).bind fun s => if s = 1 then none else if s = 2 then none else some D
theorem th_watch_ok {post : St2 → Prop} {C C' : th_C} {v : Nat → Int32} {p0 p1 p2 : Int32} (h : th_watch C p0 p1 = some C') (hp : post (th_em C' v)) : wpX_watch post (th_em C v) p0 p1 p2 := by
  unfold th_watch at h
  obtain ⟨D, hD, h⟩ := th_bind h
  obtain ⟨y, hy, h⟩ := th_bind h
  obtain ⟨i1, rfl⟩ := th_get_ok hy
  split at h
  next => cases h
  next h1 =>
    split at h
    next => cases h
    next h2 =>
      have e := Option.some.inj h
      subst e
      unfold wpX_watch
      refine th_reach_ok hD ?_
      refine ⟨i1, ?_⟩
      refine br_f h1 ?_
      refine ⟨i1, ?_⟩
      exact br_f h2 hp
def th_setL (D : th_C) (i x : Int32) : Option th_C := match D with
  | (ce, an, ph, bl, sw, co, l1, l2, l3, l5, l6, l7, l8) => (th_put l2 i 16 x).bind fun m => some (ce, an, ph, bl, sw, co, l1, m, l3, l5, l6, l7, l8)
def th_store (C : th_C) (p0 p1 p3 : Int32) : Option th_C := if th_ok p0 p1 = true then (if th_ok p0 p3 = true then (th_answer C p0).bind fun D => (th_get D.2.2.2.2.2.2.2.2.2.2.1 (p0 * 4 + p1) 12).bind fun c => if 0 ≤ c then (th_get D.2.2.2.2.2.2.2.2.2.2.1 (p0 * 4 + p3) 12).bind fun f => (th_get D.2.2.2.2.2.2.2.1 c 16).bind fun o => (th_watch D p0 o).bind fun E => th_setL E c f else none else none) else none
theorem th_store_ok {post : Int32 → St2 → Prop} {C C' : th_C} {v : Nat → Int32} {p0 p1 p3 : Int32} (h : th_store C p0 p1 p3 = some C') (hp : post 0 (th_em C' v)) : wpX_store post (th_em C v) p0 p1 0 p3 := by
  unfold th_store at h
  split at h
  next hb =>
    split at h
    next hb2 =>
      obtain ⟨D, hD, h⟩ := th_bind h
      obtain ⟨y, hy, h⟩ := th_bind h
      obtain ⟨i1, rfl⟩ := th_get_ok hy
      split at h
      next h0 =>
        obtain ⟨z, hz, h⟩ := th_bind h
        obtain ⟨i3, rfl⟩ := th_get_ok hz
        obtain ⟨o, ho, h⟩ := th_bind h
        obtain ⟨i4, rfl⟩ := th_get_ok ho
        obtain ⟨E, hE, h⟩ := th_bind h
        unfold wpX_store
        refine th_bad_ok hb ?_
        refine br_t rfl ?_
        refine th_bad_ok hb2 ?_
        refine br_t rfl ?_
        refine th_bit_ok ?_
        refine br_t rfl ?_
        refine th_answer_ok hD ?_
        refine ⟨i1, ?_⟩
        refine nm_e ?_
        refine br_t h0 ?_
        refine ⟨i3, ?_⟩
        refine nm_e ?_
        refine br_t rfl ?_
        refine ⟨i4, ?_⟩
        refine th_watch_ok hE ?_
        obtain ⟨ce, an, ph, bl, sw, co, l1, l2, l3, l5, l6, l7, l8⟩ := E
        unfold th_setL at h
        dsimp only at h
        obtain ⟨m, hm, h⟩ := th_bind h
        obtain ⟨i2, e2⟩ := th_put_ok hm
        cases h
        refine ⟨i2, ?_⟩
        refine nm_r e2 ?_
        exact hp
      next => cases h
    next => cases h
  next => cases h
def th_cntL (ce : Int32) (l1 : List Int32) : Nat → Int32 → Int32 → Option Int32
  | 0, _, _ => none
  | n + 1, x1, x2 => if ce ≤ x2 then some x1 else (th_get l1 x2 16).bind fun y => if y = 0 then th_cntL ce l1 n x1 (x2 + 1) else th_cntL ce l1 n (x1 + 1) (x2 + 1)
theorem th_cntL_ok {post : Int32 → St2 → Prop} {C : th_C} {v : Nat → Int32} {r : Int32} (hp : post r (th_em C v)) : ∀ (n : Nat) (x1 x2 : Int32), th_cntL C.1 C.2.2.2.2.2.2.1 n x1 x2 = some r → wX_live_8 post C.1 C.2.1 C.2.2.1 C.2.2.2.1 C.2.2.2.2.1 C.2.2.2.2.2.1 (th_ar C.2.2.2.2.2.2.1) (th_ar C.2.2.2.2.2.2.2.1) (th_ar C.2.2.2.2.2.2.2.2.1) v (th_ar C.2.2.2.2.2.2.2.2.2.1) (th_ar C.2.2.2.2.2.2.2.2.2.2.1) (th_ar C.2.2.2.2.2.2.2.2.2.2.2.1) (th_ar C.2.2.2.2.2.2.2.2.2.2.2.2) n x1 x2 := by
  intro n
  induction n with
  | zero =>
    intro x1 x2 h
    unfold th_cntL at h
    cases h
  | succ n ih =>
    intro x1 x2 h
    unfold th_cntL at h
    split at h
    next h1 =>
      have e := Option.some.inj h
      subst e
      exact br_t h1 hp
    next h1 =>
      obtain ⟨y, hy, h⟩ := th_bind h
      obtain ⟨i1, rfl⟩ := th_get_ok hy
      refine br_f h1 ⟨i1, ?_⟩
      split at h
      next h2 =>
        refine br_t h2 (nm_e ?_)
        exact ih _ _ h
      next h2 =>
        refine br_f h2 (nm_e (nm_e ?_))
        exact ih _ _ h
def th_live (C : th_C) : Option (Int32 × th_C) := (th_collect C).bind fun D => (th_cntL D.1 D.2.2.2.2.2.2.1 17 0 0).bind fun r => some (r, D)
theorem th_live_ok {post : Int32 → St2 → Prop} {C C' : th_C} {v : Nat → Int32} {r : Int32} (h : th_live C = some (r, C')) (hp : post r (th_em C' v)) : wpX_live post (th_em C v) := by
  unfold th_live at h
  obtain ⟨D, hD, h⟩ := th_bind h
  obtain ⟨q, hq, h⟩ := th_bind h
  cases h
  unfold wpX_live
  refine th_collect_ok hD ?_
  refine ⟨17, ?_⟩
  exact th_cntL_ok hp 17 0 0 hq
def th_tag (C : th_C) (p : Int32) : Option Int32 := if 0 ≤ p then th_get C.2.2.2.2.2.2.2.2.2.1 p 16 else some 0
theorem th_tag_ok {post : Int32 → Prop} {C : th_C} {v : Nat → Int32} {p r : Int32} (h : th_tag C p = some r) (hp : post r) : wpX_tagOf post (th_em C v) p := by
  unfold th_tag at h
  split at h
  next h0 =>
    obtain ⟨i1, rfl⟩ := th_get_ok h
    exact br_t h0 ⟨i1, hp⟩
  next h0 =>
    cases h
    exact br_f h0 hp
def th_serial (C : th_C) (p0 p1 : Int32) : Option Int32 := if th_ok p0 p1 = true then (th_get C.2.2.2.2.2.2.2.2.2.2.1 (p0 * 4 + p1) 12).bind fun c => th_tag C c else none
theorem th_serial_ok {post : Int32 → Prop} {C : th_C} {v : Nat → Int32} {p0 p1 r : Int32} (h : th_serial C p0 p1 = some r) (hp : post r) : wpX_serial post (th_em C v) p0 p1 := by
  unfold th_serial at h
  split at h
  next hb =>
    obtain ⟨y, hy, h⟩ := th_bind h
    obtain ⟨i1, rfl⟩ := th_get_ok hy
    unfold wpX_serial
    refine th_bad_ok hb ?_
    refine br_t rfl ?_
    refine ⟨i1, ?_⟩
    refine th_tag_ok h ?_
    exact hp
  next => cases h
def th_cell (C : th_C) (p0 p1 : Int32) : Option Int32 := if th_ok p0 p1 = true then (th_get C.2.2.2.2.2.2.2.2.2.2.1 (p0 * 4 + p1) 12).bind fun c => if 0 ≤ c then (if th_in c 16 = true then some c else none) else none else none
theorem th_number_ok {post : Int32 → Prop} {C : th_C} {v : Nat → Int32} {p0 p1 c : Int32} (h : th_cell C p0 p1 = some c) (hp : post (v c.toNatClampNeg)) : wpX_number post (th_em C v) p0 p1 := by
  unfold th_cell at h
  split at h
  next hb =>
    obtain ⟨y, hy, h⟩ := th_bind h
    obtain ⟨i1, rfl⟩ := th_get_ok hy
    split at h
    next h0 =>
      split at h
      next h2 =>
        have e := Option.some.inj h
        subst e
        unfold wpX_number
        refine th_bad_ok hb ?_
        refine br_t rfl ?_
        refine ⟨i1, ?_⟩
        refine nm_e ?_
        refine br_t h0 ?_
        exact ⟨th_in_ok h2, hp⟩
      next => cases h
    next => cases h
  next => cases h
def th_serialIn (C : th_C) (p0 p1 : Int32) : Option Int32 := if th_ok p0 p1 = true then (th_get C.2.2.2.2.2.2.2.2.2.2.1 (p0 * 4 + p1) 12).bind fun c => if 0 ≤ c then (th_get C.2.2.2.2.2.2.2.1 c 16).bind fun z => th_tag C z else none else none
theorem th_serialIn_ok {post : Int32 → Prop} {C : th_C} {v : Nat → Int32} {p0 p1 r : Int32} (h : th_serialIn C p0 p1 = some r) (hp : post r) : wpX_serialIn post (th_em C v) p0 p1 0 := by
  unfold th_serialIn at h
  split at h
  next hb =>
    obtain ⟨y, hy, h⟩ := th_bind h
    obtain ⟨i1, rfl⟩ := th_get_ok hy
    split at h
    next h0 =>
      obtain ⟨z, hz, h⟩ := th_bind h
      obtain ⟨i2, rfl⟩ := th_get_ok hz
      unfold wpX_serialIn
      refine th_bad_ok hb ?_
      refine br_t rfl ?_
      refine th_bit_ok ?_
      refine br_t rfl ?_
      refine ⟨i1, ?_⟩
      refine nm_e ?_
      refine br_t h0 ?_
      refine br_t rfl ?_
      refine ⟨i2, ?_⟩
      refine th_tag_ok h ?_
      exact hp
    next => cases h
  next => cases h
/-- steps alone: the first one opens a round, those behind it change nothing -/
theorem th_restL_ok {post : St2 → Prop} {D : th_C} {v : Nat → Int32} {N : Nat} (hN : N < 2 ^ 30) (hD : th_step D = some D) (hp : post (th_em D v)) : ∀ n i : Nat, i ≤ N → N - i < n → wX_rest_15 post (nI N) n (nI i) D.1 D.2.1 D.2.2.1 D.2.2.2.1 D.2.2.2.2.1 D.2.2.2.2.2.1 (th_ar D.2.2.2.2.2.2.1) (th_ar D.2.2.2.2.2.2.2.1) (th_ar D.2.2.2.2.2.2.2.2.1) v (th_ar D.2.2.2.2.2.2.2.2.2.1) (th_ar D.2.2.2.2.2.2.2.2.2.2.1) (th_ar D.2.2.2.2.2.2.2.2.2.2.2.1) (th_ar D.2.2.2.2.2.2.2.2.2.2.2.2) := by
  intro n
  induction n with
  | zero => intro i _ h; omega
  | succ n ih =>
    intro i hi hn
    refine pk_le N i (fun _ => hp) (fun z => ?_)
    refine th_step_ok hD ?_
    refine nm_r (nI_1 i) ?_
    exact ih (i + 1) (by omega) (by omega)
theorem th_restN_ok {post : St2 → Prop} {C D : th_C} {v : Nat → Int32} {N : Nat} (h1 : 1 ≤ N) (hN : N < 2 ^ 30) (hC : th_step C = some D) (hD : th_step D = some D) (hp : post (th_em D v)) : wX_rest_15 post (nI N) (N + 1) 0 C.1 C.2.1 C.2.2.1 C.2.2.2.1 C.2.2.2.2.1 C.2.2.2.2.2.1 (th_ar C.2.2.2.2.2.2.1) (th_ar C.2.2.2.2.2.2.2.1) (th_ar C.2.2.2.2.2.2.2.2.1) v (th_ar C.2.2.2.2.2.2.2.2.2.1) (th_ar C.2.2.2.2.2.2.2.2.2.2.1) (th_ar C.2.2.2.2.2.2.2.2.2.2.2.1) (th_ar C.2.2.2.2.2.2.2.2.2.2.2.2) := by
  refine pk_le N 0 (fun z => absurd z (by omega)) (fun _ => ?_)
  refine th_step_ok hC ?_
  refine nm_r (show (0 : Int32) + 1 = nI 1 from rfl) ?_
  exact th_restL_ok hN hD hp N 1 h1 (by omega)
theorem th_rest_ok {post : St2 → Prop} {C D : th_C} {v : Nat → Int32} {k : Int32} (hC : th_step C = some D) (hD : th_step D = some D) (hp0 : post (th_em C v)) (hp : post (th_em D v)) : wpX_rest post (th_em C v) k := by
  refine br_c (fun h => ?_) (fun h => ?_)
  · by_cases h0 : k ≤ 0
    · refine ⟨1, ?_⟩
      exact br_t h0 hp0
    · have h0' : ¬ k < 0 := fun z => h0 (Int32.le_of_lt z)
      obtain ⟨j, hj, e⟩ := nI_of2 (n := 63) (by decide) h0' h
      have hj1 : 1 ≤ j := by
        rcases Nat.eq_zero_or_pos j with z | z
        · exact absurd (show k ≤ 0 by rw [e, z]; decide) h0
        · exact z
      subst e
      exact ⟨j + 1, th_restN_ok hj1 (by omega) hC hD hp⟩
  · exact ⟨64, th_restN_ok (N := 63) (by omega) (by omega) hC hD hp⟩
def th_initL : Nat → Int32 → List Int32 → Option (List Int32)
  | 0, _, _ => none
  | n + 1, x, l => if 12 ≤ x then some l else (th_put l x 12 (-1)).bind fun m => th_initL n (x + 1) m
theorem th_initL_ok {post : St2 → Prop} {mc ms kc ks : Nat} {b1 b2 b3 b4 b5 b6 : Int32} {a1 a2 a3 a4 a5 a7 a8 : Nat → Int32} {l' : List Int32} (hp : post (b1, b2, b3, b4, b5, b6, a1, a2, a3, a4, a5, th_ar l', upd (upd a7 0 (-1)) 1 (-1), a8)) : ∀ (n : Nat) (x : Int32) (l : List Int32), th_initL n x l = some l' → wX_init_96 post mc ms kc ks b1 b2 b3 b4 b5 b6 n x a1 a2 a3 a4 a5 (th_ar l) a7 a8 := by
  intro n
  induction n with
  | zero =>
    intro x l h
    unfold th_initL at h
    cases h
  | succ n ih =>
    intro x l h
    unfold th_initL at h
    split at h
    next h1 =>
      have e := Option.some.inj h
      subst e
      refine br_t h1 (nm_e (nm_e ?_))
      exact hp
    next h1 =>
      obtain ⟨m, hm, h⟩ := th_bind h
      obtain ⟨i1, e1⟩ := th_put_ok hm
      refine br_f h1 ⟨i1, ?_⟩
      refine nm_r e1 ?_
      refine nm_e ?_
      exact ih _ m h
end
section
/-! The states between the law's calls, and that each call leads from one to the next (by evaluation). -/
def th_3 (t : Int32) : Prop := t = 0 ∨ t = 1 ∨ t = 2
def th_2 (x : Int32) : Prop := x = 1 ∨ x = 2
def th_q (a b c d : Int32) : List Int32 := [a, b, c, d, 0, 0, 0, 0, 0, 0, 0, 0, 0, 0, 0, 0]
def th_rg (t a b c : Int32) : List Int32 := if t = 0 then [a, b, c, -1, -1, -1, -1, -1, -1, -1, -1, -1] else if t = 1 then [-1, -1, -1, -1, a, b, c, -1, -1, -1, -1, -1] else [-1, -1, -1, -1, -1, -1, -1, -1, a, b, c, -1]
def th_ru (u : Int32) : List Int32 := if u = 0 then [-1, -1, -1, 0, -1, -1, -1, -1, -1, -1, -1, -1] else if u = 1 then [-1, -1, -1, -1, -1, -1, -1, 0, -1, -1, -1, -1] else [-1, -1, -1, -1, -1, -1, -1, -1, -1, -1, -1, 0]
/-- four cells, the collector at rest -/
def th_S (bl co : Int32) (l1 l2 l3 l5 l6 l8 : List Int32) : th_C := (4, 0, 0, bl, 0, co, l1, l2, l3, l5, l6, [-1, -1], l8)
def th_A0 : th_C := th_S 1 0 (th_q 0 0 0 0) (th_q 0 0 0 0) (th_q 0 0 0 0) (th_q 0 0 0 0) [-1, -1, -1, -1, -1, -1, -1, -1, -1, -1, -1, -1] [0, 0, 0]
def th_A1 (t : Int32) : th_C := th_S 1 1 (th_q 1 0 0 0) (th_q (-1) 0 0 0) (th_q (-1) 0 0 0) (th_q 1 0 0 0) (th_rg t 0 (-1) (-1)) [0, 0, 0]
def th_A2 (t : Int32) : th_C := th_S 1 1 (th_q 1 0 0 0) (th_q (-1) 0 0 0) (th_q (-1) 0 0 0) (th_q 1 0 0 0) (th_rg t 0 0 (-1)) [0, 0, 0]
def th_A3 (t : Int32) : th_C := th_S 1 2 (th_q 1 1 0 0) (th_q (-1) (-1) 0 0) (th_q (-1) (-1) 0 0) (th_q 1 2 0 0) (th_rg t 0 0 1) [0, 0, 0]
def th_A4 (t : Int32) : th_C := th_S 1 2 (th_q 1 1 0 0) (th_q (-1) 0 0 0) (th_q (-1) (-1) 0 0) (th_q 1 2 0 0) (th_rg t 0 0 1) [0, 0, 0]
def th_A5 (t : Int32) : th_C := th_S 1 2 (th_q 1 1 0 0) (th_q (-1) 0 0 0) (th_q (-1) (-1) 0 0) (th_q 1 2 0 0) (th_rg t 1 0 1) [0, 0, 0]
def th_A6 (t : Int32) : th_C := th_S 1 3 (th_q 1 1 1 0) (th_q (-1) 0 (-1) 0) (th_q (-1) (-1) (-1) 0) (th_q 1 2 3 0) (th_rg t 1 0 2) [0, 0, 0]
def th_A7 (t : Int32) : th_C := th_S 1 3 (th_q 1 1 1 0) (th_q (-1) 0 1 0) (th_q (-1) (-1) (-1) 0) (th_q 1 2 3 0) (th_rg t 1 0 2) [0, 0, 0]
def th_A8 (t : Int32) : th_C := th_S 1 3 (th_q 1 1 1 0) (th_q (-1) 0 1 0) (th_q (-1) (-1) (-1) 0) (th_q 1 2 3 0) (th_rg t 2 0 2) [0, 0, 0]
def th_A9 (t : Int32) : th_C := th_S 1 4 (th_q 1 1 1 1) (th_q (-1) 0 1 (-1)) (th_q (-1) (-1) (-1) (-1)) (th_q 1 2 3 4) (th_rg t 2 0 3) [0, 0, 0]
def th_A10 (t : Int32) : th_C := th_S 1 4 (th_q 1 1 1 1) (th_q (-1) 0 1 2) (th_q (-1) (-1) (-1) (-1)) (th_q 1 2 3 4) (th_rg t 2 0 3) [0, 0, 0]
def th_A11 (t : Int32) : th_C := th_S 1 4 (th_q 1 1 1 1) (th_q (-1) 0 1 2) (th_q (-1) (-1) (-1) (-1)) (th_q 1 2 3 4) (th_rg t 3 0 3) [0, 0, 0]
def th_A12 (t : Int32) : th_C := th_S 1 4 (th_q 1 1 1 1) (th_q 3 0 1 2) (th_q (-1) (-1) (-1) (-1)) (th_q 1 2 3 4) (th_rg t 3 0 3) [0, 0, 0]
/-- the ring of four, all of colour x; thread t's registers -/
def th_B (x t a b c : Int32) : th_C := th_S x 4 (th_q x x x x) (th_q 3 0 1 2) (th_q (-1) (-1) (-1) (-1)) (th_q 1 2 3 4) (th_rg t a b c) [3, 3, 3]
/-- the same, a round just opened -/
def th_D (t : Int32) : th_C := (4, 0, 1, 2, 0, 4, th_q 1 1 1 1, th_q 3 0 1 2, th_q (-1) (-1) (-1) (-1), th_q 1 2 3 4, th_rg t 3 (-1) (-1), [-1, -1], [3, 3, 3])
/-- all free -/
def th_E (x t : Int32) : th_C := th_S x 4 (th_q 0 0 0 0) (th_q 3 0 1 2) (th_q (-1) (-1) (-1) (-1)) (th_q 1 2 3 4) (th_rg t (-1) (-1) (-1)) [3, 3, 3]
/-- one cell, made by u -/
def th_G (x u : Int32) : th_C := th_S x 5 (th_q x 0 0 0) (th_q (-1) 0 1 2) (th_q (-1) (-1) (-1) (-1)) (th_q 5 2 3 4) (th_ru u) [3, 3, 3]
/-- controls compared place by place -/
def th_eqC (C D : th_C) : Bool := decide (C.1 = D.1) && (decide (C.2.1 = D.2.1) && (decide (C.2.2.1 = D.2.2.1) && (decide (C.2.2.2.1 = D.2.2.2.1) && (decide (C.2.2.2.2.1 = D.2.2.2.2.1) && (decide (C.2.2.2.2.2.1 = D.2.2.2.2.2.1) && (decide (C.2.2.2.2.2.2.1 = D.2.2.2.2.2.2.1) && (decide (C.2.2.2.2.2.2.2.1 = D.2.2.2.2.2.2.2.1) && (decide (C.2.2.2.2.2.2.2.2.1 = D.2.2.2.2.2.2.2.2.1) && (decide (C.2.2.2.2.2.2.2.2.2.1 = D.2.2.2.2.2.2.2.2.2.1) && (decide (C.2.2.2.2.2.2.2.2.2.2.1 = D.2.2.2.2.2.2.2.2.2.2.1) && (decide (C.2.2.2.2.2.2.2.2.2.2.2.1 = D.2.2.2.2.2.2.2.2.2.2.2.1) && (decide (C.2.2.2.2.2.2.2.2.2.2.2.2 = D.2.2.2.2.2.2.2.2.2.2.2.2)))))))))))))
theorem th_eqC_ok {C D : th_C} (h : th_eqC C D = true) : C = D := by
  obtain ⟨ce, an, ph, bl, sw, co, l1, l2, l3, l5, l6, l7, l8⟩ := C
  obtain ⟨c1, c2, c3, c4, c5, c6, m1, m2, m3, m5, m6, m7, m8⟩ := D
  simp only [th_eqC, Bool.and_eq_true, decide_eq_true_eq] at h
  obtain ⟨rfl, rfl, rfl, rfl, rfl, rfl, rfl, rfl, rfl, rfl, rfl, rfl, rfl⟩ := h
  rfl
def th_is (o : Option th_C) (D : th_C) : Bool := match o with
  | none => false
  | some C => th_eqC C D
theorem th_is_ok {o : Option th_C} {D : th_C} (h : th_is o D = true) : o = some D := by
  cases o with
  | none => cases h
  | some C => exact congrArg some (th_eqC_ok h)
def th_is2 (o : Option (Int32 × th_C)) (r : Int32) (D : th_C) : Bool := match o with
  | none => false
  | some (q, C) => decide (q = r) && th_eqC C D
theorem th_is2_ok {o : Option (Int32 × th_C)} {r : Int32} {D : th_C} (h : th_is2 o r D = true) : o = some (r, D) := by
  cases o with
  | none => cases h
  | some p =>
    obtain ⟨q, C⟩ := p
    have h' : (decide (q = r) && th_eqC C D) = true := h
    rw [Bool.and_eq_true] at h'
    rw [of_decide_eq_true h'.1, th_eqC_ok h'.2]
def th_is3 (o : Option (Int32 × Int32 × th_C)) (r c : Int32) (D : th_C) : Bool := match o with
  | none => false
  | some (q, d, C) => decide (q = r) && (decide (d = c) && th_eqC C D)
theorem th_is3_ok {o : Option (Int32 × Int32 × th_C)} {r c : Int32} {D : th_C} (h : th_is3 o r c D = true) : o = some (r, c, D) := by
  cases o with
  | none => cases h
  | some p =>
    obtain ⟨q, d, C⟩ := p
    have h' : (decide (q = r) && (decide (d = c) && th_eqC C D)) = true := h
    rw [Bool.and_eq_true, Bool.and_eq_true] at h'
    rw [of_decide_eq_true h'.1, of_decide_eq_true h'.2.1, th_eqC_ok h'.2.2]
theorem th_f0 : th_initL 13 0 (List.replicate 12 0) = some [-1, -1, -1, -1, -1, -1, -1, -1, -1, -1, -1, -1] := by decide +kernel
theorem th_f1 {t : Int32} (ht : th_3 t) : th_make1 th_A0 t 0 = some (1, 0, th_A1 t) := by
  rcases ht with rfl | rfl | rfl <;> exact th_is3_ok (by decide +kernel)
theorem th_f2 {t : Int32} (ht : th_3 t) : th_copy (th_A1 t) t 1 0 = some (th_A2 t) := by
  rcases ht with rfl | rfl | rfl <;> exact th_is_ok (by decide +kernel)
theorem th_f3 {t : Int32} (ht : th_3 t) : th_make1 (th_A2 t) t 2 = some (2, 1, th_A3 t) := by
  rcases ht with rfl | rfl | rfl <;> exact th_is3_ok (by decide +kernel)
theorem th_f4 {t : Int32} (ht : th_3 t) : th_store (th_A3 t) t 2 0 = some (th_A4 t) := by
  rcases ht with rfl | rfl | rfl <;> exact th_is_ok (by decide +kernel)
theorem th_f5 {t : Int32} (ht : th_3 t) : th_copy (th_A4 t) t 0 2 = some (th_A5 t) := by
  rcases ht with rfl | rfl | rfl <;> exact th_is_ok (by decide +kernel)
theorem th_f6 {t : Int32} (ht : th_3 t) : th_make1 (th_A5 t) t 2 = some (3, 2, th_A6 t) := by
  rcases ht with rfl | rfl | rfl <;> exact th_is3_ok (by decide +kernel)
theorem th_f7 {t : Int32} (ht : th_3 t) : th_store (th_A6 t) t 2 0 = some (th_A7 t) := by
  rcases ht with rfl | rfl | rfl <;> exact th_is_ok (by decide +kernel)
theorem th_f8 {t : Int32} (ht : th_3 t) : th_copy (th_A7 t) t 0 2 = some (th_A8 t) := by
  rcases ht with rfl | rfl | rfl <;> exact th_is_ok (by decide +kernel)
theorem th_f9 {t : Int32} (ht : th_3 t) : th_make1 (th_A8 t) t 2 = some (4, 3, th_A9 t) := by
  rcases ht with rfl | rfl | rfl <;> exact th_is3_ok (by decide +kernel)
theorem th_f10 {t : Int32} (ht : th_3 t) : th_store (th_A9 t) t 2 0 = some (th_A10 t) := by
  rcases ht with rfl | rfl | rfl <;> exact th_is_ok (by decide +kernel)
theorem th_f11 {t : Int32} (ht : th_3 t) : th_copy (th_A10 t) t 0 2 = some (th_A11 t) := by
  rcases ht with rfl | rfl | rfl <;> exact th_is_ok (by decide +kernel)
theorem th_f12 {t : Int32} (ht : th_3 t) : th_store (th_A11 t) t 1 0 = some (th_A12 t) := by
  rcases ht with rfl | rfl | rfl <;> exact th_is_ok (by decide +kernel)
theorem th_f13 {t : Int32} (ht : th_3 t) : th_live (th_A12 t) = some (4, th_B 2 t 3 0 3) := by
  rcases ht with rfl | rfl | rfl <;> exact th_is2_ok (by decide +kernel)
theorem th_f14 {t u : Int32} (ht : th_3 t) (hu : th_3 u) : th_make0 (th_B 2 t 3 0 3) u 3 = some (th_B 1 t 3 0 3) := by
  rcases ht with rfl | rfl | rfl <;> rcases hu with rfl | rfl | rfl <;> exact th_is_ok (by decide +kernel)
theorem th_f15 {t u : Int32} (ht : th_3 t) (hu : th_3 u) : th_serial (th_B 1 t 3 0 3) u 3 = some 0 := by
  rcases ht with rfl | rfl | rfl <;> rcases hu with rfl | rfl | rfl <;> decide +kernel
theorem th_f16 {t : Int32} (ht : th_3 t) : th_drop (th_B 1 t 3 0 3) t 1 = some (th_B 1 t 3 (-1) 3) := by
  rcases ht with rfl | rfl | rfl <;> exact th_is_ok (by decide +kernel)
theorem th_f17 {t : Int32} (ht : th_3 t) : th_drop (th_B 1 t 3 (-1) 3) t 2 = some (th_B 1 t 3 (-1) (-1)) := by
  rcases ht with rfl | rfl | rfl <;> exact th_is_ok (by decide +kernel)
theorem th_f18 {t : Int32} (ht : th_3 t) : th_step (th_B 1 t 3 (-1) (-1)) = some (th_D t) := by
  rcases ht with rfl | rfl | rfl <;> exact th_is_ok (by decide +kernel)
theorem th_f18' {t : Int32} (ht : th_3 t) : th_step (th_D t) = some (th_D t) := by
  rcases ht with rfl | rfl | rfl <;> exact th_is_ok (by decide +kernel)
theorem th_f19 {t : Int32} (ht : th_3 t) : th_live (th_B 1 t 3 (-1) (-1)) = some (4, th_B 2 t 3 (-1) (-1)) := by
  rcases ht with rfl | rfl | rfl <;> exact th_is2_ok (by decide +kernel)
theorem th_f19' {t : Int32} (ht : th_3 t) : th_live (th_D t) = some (4, th_B 1 t 3 (-1) (-1)) := by
  rcases ht with rfl | rfl | rfl <;> exact th_is2_ok (by decide +kernel)
/-- what the checks of the law's second loop see -/
theorem th_f20 {t x a : Int32} (ht : th_3 t) (hx : th_2 x) (ha : a = 0 ∨ a = 1 ∨ a = 2 ∨ a = 3) : th_serial (th_B x t a (-1) (-1)) t 0 = some (a + 1) ∧ th_cell (th_B x t a (-1) (-1)) t 0 = some a := by
  rcases ht with rfl | rfl | rfl <;> rcases hx with rfl | rfl <;> rcases ha with rfl | rfl | rfl | rfl <;> decide +kernel
theorem th_f21 {t x : Int32} (ht : th_3 t) (hx : th_2 x) : th_load (th_B x t 3 (-1) (-1)) t 0 0 = some (th_B x t 2 (-1) (-1)) := by
  rcases ht with rfl | rfl | rfl <;> rcases hx with rfl | rfl <;> exact th_is_ok (by decide +kernel)
theorem th_f22 {t x : Int32} (ht : th_3 t) (hx : th_2 x) : th_load (th_B x t 2 (-1) (-1)) t 0 0 = some (th_B x t 1 (-1) (-1)) := by
  rcases ht with rfl | rfl | rfl <;> rcases hx with rfl | rfl <;> exact th_is_ok (by decide +kernel)
theorem th_f23 {t x : Int32} (ht : th_3 t) (hx : th_2 x) : th_load (th_B x t 1 (-1) (-1)) t 0 0 = some (th_B x t 0 (-1) (-1)) := by
  rcases ht with rfl | rfl | rfl <;> rcases hx with rfl | rfl <;> exact th_is_ok (by decide +kernel)
theorem th_f23' {t x : Int32} (ht : th_3 t) (hx : th_2 x) : th_load (th_B x t 0 (-1) (-1)) t 0 0 = some (th_B x t 3 (-1) (-1)) := by
  rcases ht with rfl | rfl | rfl <;> rcases hx with rfl | rfl <;> exact th_is_ok (by decide +kernel)
theorem th_f24 {t u x : Int32} (ht : th_3 t) (hu : th_3 u) (hx : th_2 x) : th_make0 (th_B x t 3 (-1) (-1)) u 3 = some (th_B (3 - x) t 3 (-1) (-1)) := by
  rcases ht with rfl | rfl | rfl <;> rcases hu with rfl | rfl | rfl <;> rcases hx with rfl | rfl <;> exact th_is_ok (by decide +kernel)
theorem th_f25 {t x : Int32} (ht : th_3 t) (hx : th_2 x) : th_drop (th_B (3 - x) t 3 (-1) (-1)) t 0 = some (th_B (3 - x) t (-1) (-1) (-1)) := by
  rcases ht with rfl | rfl | rfl <;> rcases hx with rfl | rfl <;> exact th_is_ok (by decide +kernel)
theorem th_f26 {t x : Int32} (ht : th_3 t) (hx : th_2 x) : th_live (th_B (3 - x) t (-1) (-1) (-1)) = some (0, th_E x t) := by
  rcases ht with rfl | rfl | rfl <;> rcases hx with rfl | rfl <;> exact th_is2_ok (by decide +kernel)
theorem th_f27 {t u x : Int32} (ht : th_3 t) (hu : th_3 u) (hx : th_2 x) : th_make1 (th_E x t) u 3 = some (5, 0, th_G x u) := by
  rcases ht with rfl | rfl | rfl <;> rcases hu with rfl | rfl | rfl <;> rcases hx with rfl | rfl <;> exact th_is3_ok (by decide +kernel)
theorem th_f28 {u x : Int32} (hu : th_3 u) (hx : th_2 x) : th_live (th_G x u) = some (1, th_G (3 - x) u) := by
  rcases hu with rfl | rfl | rfl <;> rcases hx with rfl | rfl <;> exact th_is2_ok (by decide +kernel)
theorem th_f29 {u x : Int32} (hu : th_3 u) (hx : th_2 x) : th_serialIn (th_G (3 - x) u) u 3 = some 0 ∧ th_cell (th_G (3 - x) u) u 3 = some 0 := by
  rcases hu with rfl | rfl | rfl <;> rcases hx with rfl | rfl <;> decide +kernel
end
section
/-! The law, from its end to its beginning. -/
theorem th_l316 {post : Int32 → St0 → Prop} {mc ms kc ks : Nat} {n t u x : Int32} {v : Nat → Int32} (ht : th_3 t) (hu : th_3 u) (hx : th_2 x) (hp : post 1 ()) : wL_lawOf_316 post mc ms n u 1 kc ks (th_E x t).1 (th_E x t).2.1 (th_E x t).2.2.1 (th_E x t).2.2.2.1 (th_E x t).2.2.2.2.1 (th_E x t).2.2.2.2.2.1 (th_ar (th_E x t).2.2.2.2.2.2.1) (th_ar (th_E x t).2.2.2.2.2.2.2.1) (th_ar (th_E x t).2.2.2.2.2.2.2.2.1) v (th_ar (th_E x t).2.2.2.2.2.2.2.2.2.1) (th_ar (th_E x t).2.2.2.2.2.2.2.2.2.2.1) (th_ar (th_E x t).2.2.2.2.2.2.2.2.2.2.2.1) (th_ar (th_E x t).2.2.2.2.2.2.2.2.2.2.2.2) := by
  unfold wL_lawOf_316
  refine th_make1_ok (th_f27 ht hu hx) ?_
  refine br_f (by decide) ?_
  refine br_t rfl ?_
  refine th_live_ok (th_f28 hu hx) ?_
  refine br_t rfl ?_
  refine th_serialIn_ok (th_f29 hu hx).1 ?_
  refine br_t rfl ?_
  refine th_number_ok (th_f29 hu hx).2 ?_
  exact br_t pk_us hp
theorem th_l289 {post : Int32 → St0 → Prop} {mc ms kc ks : Nat} {n t u x : Int32} {v : Nat → Int32} (ht : th_3 t) (hu : th_3 u) (hx : th_2 x) (hp : post 1 ()) : wL_lawOf_289 post mc ms n t u 1 kc ks (th_B (3 - x) t 3 (-1) (-1)).1 (th_B (3 - x) t 3 (-1) (-1)).2.1 (th_B (3 - x) t 3 (-1) (-1)).2.2.1 (th_B (3 - x) t 3 (-1) (-1)).2.2.2.1 (th_B (3 - x) t 3 (-1) (-1)).2.2.2.2.1 (th_B (3 - x) t 3 (-1) (-1)).2.2.2.2.2.1 (th_ar (th_B (3 - x) t 3 (-1) (-1)).2.2.2.2.2.2.1) (th_ar (th_B (3 - x) t 3 (-1) (-1)).2.2.2.2.2.2.2.1) (th_ar (th_B (3 - x) t 3 (-1) (-1)).2.2.2.2.2.2.2.2.1) v (th_ar (th_B (3 - x) t 3 (-1) (-1)).2.2.2.2.2.2.2.2.2.1) (th_ar (th_B (3 - x) t 3 (-1) (-1)).2.2.2.2.2.2.2.2.2.2.1) (th_ar (th_B (3 - x) t 3 (-1) (-1)).2.2.2.2.2.2.2.2.2.2.2.1) (th_ar (th_B (3 - x) t 3 (-1) (-1)).2.2.2.2.2.2.2.2.2.2.2.2) := by
  unfold wL_lawOf_289
  refine th_drop_ok (th_f25 ht hx) ?_
  refine br_f (by decide) ?_
  refine th_live_ok (th_f26 ht hx) ?_
  refine br_t rfl ?_
  exact th_l316 ht hu hx hp
theorem th_l191e {post : Int32 → St0 → Prop} {mc ms kc ks m : Nat} {n t u x : Int32} {v : Nat → Int32} (ht : th_3 t) (hu : th_3 u) (hx : th_2 x) (hp : post 1 ()) : wL_lawOf_191 post mc ms n t u kc ks (m + 1) 1 4 (th_B x t 3 (-1) (-1)).1 (th_B x t 3 (-1) (-1)).2.1 (th_B x t 3 (-1) (-1)).2.2.1 (th_B x t 3 (-1) (-1)).2.2.2.1 (th_B x t 3 (-1) (-1)).2.2.2.2.1 (th_B x t 3 (-1) (-1)).2.2.2.2.2.1 (th_ar (th_B x t 3 (-1) (-1)).2.2.2.2.2.2.1) (th_ar (th_B x t 3 (-1) (-1)).2.2.2.2.2.2.2.1) (th_ar (th_B x t 3 (-1) (-1)).2.2.2.2.2.2.2.2.1) v (th_ar (th_B x t 3 (-1) (-1)).2.2.2.2.2.2.2.2.2.1) (th_ar (th_B x t 3 (-1) (-1)).2.2.2.2.2.2.2.2.2.2.1) (th_ar (th_B x t 3 (-1) (-1)).2.2.2.2.2.2.2.2.2.2.2.1) (th_ar (th_B x t 3 (-1) (-1)).2.2.2.2.2.2.2.2.2.2.2.2) := by
  refine br_t (by decide) ?_
  refine br_f (by decide) ?_
  refine th_serial_ok (th_f20 ht hx (Or.inr (Or.inr (Or.inr rfl)))).1 ?_
  refine br_t (by decide) ?_
  refine th_make0_ok (th_f24 ht hu hx) ?_
  refine br_t rfl ?_
  exact th_l289 ht hu hx hp
theorem th_turn {post : Int32 → St0 → Prop} {mc ms kc ks m : Nat} {n t u i i' s c : Int32} {C D : th_C} {v : Nat → Int32} (h4 : ¬ 4 ≤ i) (hs : th_serial C t 0 = some s) (es : s = 4 - i) (hc : th_cell C t 0 = some c) (hv : v c.toNatClampNeg = n + 3 - i) (hl : th_load C t 0 0 = some D) (hi : i + 1 = i')
    (H : wL_lawOf_191 post mc ms n t u kc ks m 1 i' D.1 D.2.1 D.2.2.1 D.2.2.2.1 D.2.2.2.2.1 D.2.2.2.2.2.1 (th_ar D.2.2.2.2.2.2.1) (th_ar D.2.2.2.2.2.2.2.1) (th_ar D.2.2.2.2.2.2.2.2.1) v (th_ar D.2.2.2.2.2.2.2.2.2.1) (th_ar D.2.2.2.2.2.2.2.2.2.2.1) (th_ar D.2.2.2.2.2.2.2.2.2.2.2.1) (th_ar D.2.2.2.2.2.2.2.2.2.2.2.2)) : wL_lawOf_191 post mc ms n t u kc ks (m + 1) 1 i C.1 C.2.1 C.2.2.1 C.2.2.2.1 C.2.2.2.2.1 C.2.2.2.2.2.1 (th_ar C.2.2.2.2.2.2.1) (th_ar C.2.2.2.2.2.2.2.1) (th_ar C.2.2.2.2.2.2.2.2.1) v (th_ar C.2.2.2.2.2.2.2.2.2.1) (th_ar C.2.2.2.2.2.2.2.2.2.2.1) (th_ar C.2.2.2.2.2.2.2.2.2.2.2.1) (th_ar C.2.2.2.2.2.2.2.2.2.2.2.2) := by
  refine br_f h4 ?_
  refine br_f (by decide) ?_
  refine th_serial_ok hs ?_
  refine br_t es ?_
  refine th_number_ok hc ?_
  refine br_t hv ?_
  unfold wL_lawOf_237
  refine th_load_ok hl ?_
  refine nm_r hi ?_
  exact H
theorem th_l191 {post : Int32 → St0 → Prop} {mc ms kc ks : Nat} {n t u x : Int32} {v : Nat → Int32} (ht : th_3 t) (hu : th_3 u) (hx : th_2 x) (hp : post 1 ())
    (h3 : v (3 : Int32).toNatClampNeg = n + 3 - 0) (h2 : v (2 : Int32).toNatClampNeg = n + 3 - 1) (h1 : v (1 : Int32).toNatClampNeg = n + 3 - 2) (h0 : v (0 : Int32).toNatClampNeg = n + 3 - 3) : wL_lawOf_191 post mc ms n t u kc ks 5 1 0 (th_B x t 3 (-1) (-1)).1 (th_B x t 3 (-1) (-1)).2.1 (th_B x t 3 (-1) (-1)).2.2.1 (th_B x t 3 (-1) (-1)).2.2.2.1 (th_B x t 3 (-1) (-1)).2.2.2.2.1 (th_B x t 3 (-1) (-1)).2.2.2.2.2.1 (th_ar (th_B x t 3 (-1) (-1)).2.2.2.2.2.2.1) (th_ar (th_B x t 3 (-1) (-1)).2.2.2.2.2.2.2.1) (th_ar (th_B x t 3 (-1) (-1)).2.2.2.2.2.2.2.2.1) v (th_ar (th_B x t 3 (-1) (-1)).2.2.2.2.2.2.2.2.2.1) (th_ar (th_B x t 3 (-1) (-1)).2.2.2.2.2.2.2.2.2.2.1) (th_ar (th_B x t 3 (-1) (-1)).2.2.2.2.2.2.2.2.2.2.2.1) (th_ar (th_B x t 3 (-1) (-1)).2.2.2.2.2.2.2.2.2.2.2.2) := by
  have g3 := th_f20 ht hx (Or.inr (Or.inr (Or.inr (rfl : (3 : Int32) = 3))))
  have g2 := th_f20 ht hx (Or.inr (Or.inr (Or.inl (rfl : (2 : Int32) = 2))))
  have g1 := th_f20 ht hx (Or.inr (Or.inl (rfl : (1 : Int32) = 1)))
  have g0 := th_f20 ht hx (Or.inl (rfl : (0 : Int32) = 0))
  refine th_turn (i' := 1) (by decide) g3.1 (by decide) g3.2 h3 (th_f21 ht hx) (by decide) ?_
  refine th_turn (i' := 2) (by decide) g2.1 (by decide) g2.2 h2 (th_f22 ht hx) (by decide) ?_
  refine th_turn (i' := 3) (by decide) g1.1 (by decide) g1.2 h1 (th_f23 ht hx) (by decide) ?_
  refine th_turn (i' := 4) (by decide) g0.1 (by decide) g0.2 h0 (th_f23' ht hx) (by decide) ?_
  exact th_l191e ht hu hx hp
theorem th_l145 {post : Int32 → St0 → Prop} {mc ms kc ks : Nat} {n k t u : Int32} {v : Nat → Int32} (ht : th_3 t) (hu : th_3 u) (hp : post 1 ())
    (h3 : v (3 : Int32).toNatClampNeg = n + 3 - 0) (h2 : v (2 : Int32).toNatClampNeg = n + 3 - 1) (h1 : v (1 : Int32).toNatClampNeg = n + 3 - 2) (h0 : v (0 : Int32).toNatClampNeg = n + 3 - 3) : wL_lawOf_145 post mc ms n k t u 1 kc ks (th_B 1 t 3 0 3).1 (th_B 1 t 3 0 3).2.1 (th_B 1 t 3 0 3).2.2.1 (th_B 1 t 3 0 3).2.2.2.1 (th_B 1 t 3 0 3).2.2.2.2.1 (th_B 1 t 3 0 3).2.2.2.2.2.1 (th_ar (th_B 1 t 3 0 3).2.2.2.2.2.2.1) (th_ar (th_B 1 t 3 0 3).2.2.2.2.2.2.2.1) (th_ar (th_B 1 t 3 0 3).2.2.2.2.2.2.2.2.1) v (th_ar (th_B 1 t 3 0 3).2.2.2.2.2.2.2.2.2.1) (th_ar (th_B 1 t 3 0 3).2.2.2.2.2.2.2.2.2.2.1) (th_ar (th_B 1 t 3 0 3).2.2.2.2.2.2.2.2.2.2.2.1) (th_ar (th_B 1 t 3 0 3).2.2.2.2.2.2.2.2.2.2.2.2) := by
  unfold wL_lawOf_145
  refine th_drop_ok (th_f16 ht) ?_
  refine th_drop_ok (th_f17 ht) ?_
  refine th_rest_ok (th_f18 ht) (th_f18' ht) ?_ ?_
  · refine br_f (by decide) ?_
    refine th_live_ok (th_f19 ht) ?_
    refine br_t rfl ⟨5, ?_⟩
    exact th_l191 ht hu (Or.inr rfl) hp h3 h2 h1 h0
  · refine br_f (by decide) ?_
    refine th_live_ok (th_f19' ht) ?_
    refine br_t rfl ⟨5, ?_⟩
    exact th_l191 ht hu (Or.inl rfl) hp h3 h2 h1 h0
theorem th_l48e {post : Int32 → St0 → Prop} {mc ms kc ks m : Nat} {n k t u : Int32} {v : Nat → Int32} (ht : th_3 t) (hu : th_3 u) (hp : post 1 ())
    (h3 : v (3 : Int32).toNatClampNeg = n + 3 - 0) (h2 : v (2 : Int32).toNatClampNeg = n + 3 - 1) (h1 : v (1 : Int32).toNatClampNeg = n + 3 - 2) (h0 : v (0 : Int32).toNatClampNeg = n + 3 - 3) : wL_lawOf_48 post mc ms n k t u kc ks (m + 1) 4 (th_A11 t).1 (th_A11 t).2.1 (th_A11 t).2.2.1 (th_A11 t).2.2.2.1 (th_A11 t).2.2.2.2.1 (th_A11 t).2.2.2.2.2.1 (th_ar (th_A11 t).2.2.2.2.2.2.1) (th_ar (th_A11 t).2.2.2.2.2.2.2.1) (th_ar (th_A11 t).2.2.2.2.2.2.2.2.1) v (th_ar (th_A11 t).2.2.2.2.2.2.2.2.2.1) (th_ar (th_A11 t).2.2.2.2.2.2.2.2.2.2.1) (th_ar (th_A11 t).2.2.2.2.2.2.2.2.2.2.2.1) (th_ar (th_A11 t).2.2.2.2.2.2.2.2.2.2.2.2) := by
  refine br_t (by decide) ?_
  refine th_store_ok (th_f12 ht) ?_
  refine th_live_ok (th_f13 ht) ?_
  refine br_t rfl ?_
  refine th_make0_ok (th_f14 ht hu) ?_
  refine br_t rfl ?_
  refine br_t (by rfl) ?_
  refine th_serial_ok (th_f15 ht hu) ?_
  refine br_t rfl ?_
  exact th_l145 ht hu hp h3 h2 h1 h0
theorem th_turn48 {post : Int32 → St0 → Prop} {mc ms kc ks m : Nat} {n k t u i i' r c : Int32} {C D E F : th_C} {v : Nat → Int32} (h4 : ¬ 4 ≤ i) (hm : th_make1 C t 2 = some (r, c, D)) (hs : th_store D t 2 0 = some E) (hc : th_copy E t 0 2 = some F) (hi : i + 1 = i')
    (H : wL_lawOf_48 post mc ms n k t u kc ks m i' F.1 F.2.1 F.2.2.1 F.2.2.2.1 F.2.2.2.2.1 F.2.2.2.2.2.1 (th_ar F.2.2.2.2.2.2.1) (th_ar F.2.2.2.2.2.2.2.1) (th_ar F.2.2.2.2.2.2.2.2.1) (upd v c.toNatClampNeg (n + i)) (th_ar F.2.2.2.2.2.2.2.2.2.1) (th_ar F.2.2.2.2.2.2.2.2.2.2.1) (th_ar F.2.2.2.2.2.2.2.2.2.2.2.1) (th_ar F.2.2.2.2.2.2.2.2.2.2.2.2)) : wL_lawOf_48 post mc ms n k t u kc ks (m + 1) i C.1 C.2.1 C.2.2.1 C.2.2.2.1 C.2.2.2.2.1 C.2.2.2.2.2.1 (th_ar C.2.2.2.2.2.2.1) (th_ar C.2.2.2.2.2.2.2.1) (th_ar C.2.2.2.2.2.2.2.2.1) v (th_ar C.2.2.2.2.2.2.2.2.2.1) (th_ar C.2.2.2.2.2.2.2.2.2.2.1) (th_ar C.2.2.2.2.2.2.2.2.2.2.2.1) (th_ar C.2.2.2.2.2.2.2.2.2.2.2.2) := by
  refine br_f h4 ?_
  refine th_make1_ok hm ?_
  refine th_store_ok hs ?_
  refine th_copy_ok hc ?_
  refine nm_r hi ?_
  exact H
/-- the values that the law writes -/
def th_v (n : Int32) : Nat → Int32 := upd (upd (upd (upd (fun _ => 0) (0 : Int32).toNatClampNeg n) (1 : Int32).toNatClampNeg (n + 1)) (2 : Int32).toNatClampNeg (n + 2)) (3 : Int32).toNatClampNeg (n + 3)
theorem th_v3 (n : Int32) : th_v n (3 : Int32).toNatClampNeg = n + 3 - 0 := by
  unfold th_v
  rw [pk_us]
  grind
theorem th_v2 (n : Int32) : th_v n (2 : Int32).toNatClampNeg = n + 3 - 1 := by
  unfold th_v
  rw [pk_un (by decide), pk_us]
  grind
theorem th_v1 (n : Int32) : th_v n (1 : Int32).toNatClampNeg = n + 3 - 2 := by
  unfold th_v
  rw [pk_un (by decide), pk_un (by decide), pk_us]
  grind
theorem th_v0 (n : Int32) : th_v n (0 : Int32).toNatClampNeg = n + 3 - 3 := by
  unfold th_v
  rw [pk_un (by decide), pk_un (by decide), pk_un (by decide), pk_us]
  grind
abbrev th_w (n : Int32) : Nat → Int32 := upd (fun _ => 0) (0 : Int32).toNatClampNeg n
theorem th_l48 {post : Int32 → St0 → Prop} {mc ms kc ks : Nat} {n k t u : Int32} (ht : th_3 t) (hu : th_3 u) (hp : post 1 ()) : wL_lawOf_48 post mc ms n k t u kc ks 4 1 (th_A2 t).1 (th_A2 t).2.1 (th_A2 t).2.2.1 (th_A2 t).2.2.2.1 (th_A2 t).2.2.2.2.1 (th_A2 t).2.2.2.2.2.1 (th_ar (th_A2 t).2.2.2.2.2.2.1) (th_ar (th_A2 t).2.2.2.2.2.2.2.1) (th_ar (th_A2 t).2.2.2.2.2.2.2.2.1) (th_w n) (th_ar (th_A2 t).2.2.2.2.2.2.2.2.2.1) (th_ar (th_A2 t).2.2.2.2.2.2.2.2.2.2.1) (th_ar (th_A2 t).2.2.2.2.2.2.2.2.2.2.2.1) (th_ar (th_A2 t).2.2.2.2.2.2.2.2.2.2.2.2) := by
  refine th_turn48 (i' := 2) (by decide) (th_f3 ht) (th_f4 ht) (th_f5 ht) (by decide) ?_
  refine th_turn48 (i' := 3) (by decide) (th_f6 ht) (th_f7 ht) (th_f8 ht) (by decide) ?_
  refine th_turn48 (i' := 4) (by decide) (th_f9 ht) (th_f10 ht) (th_f11 ht) (by decide) ?_
  exact th_l48e (v := th_v n) ht hu hp (th_v3 n) (th_v2 n) (th_v1 n) (th_v0 n)
theorem th_init_ok {post : St2 → Prop} (hp : post (th_em th_A0 (fun _ => 0))) : wpX_init post 73 1170 (0, 0, 0, 0, 0, 0) 4 := by
  have z16 : th_ar (th_q 0 0 0 0) = fun _ => 0 := th_zero 16
  have z3 : th_ar [0, 0, 0] = fun _ => 0 := th_zero 3
  have z12 : th_ar (List.replicate 12 0) = fun _ => 0 := th_zero 12
  have g : upd (upd (fun _ => 0) 0 (-1)) 1 (-1) = th_ar [-1, -1] := by
    have e0 : upd (th_ar [0, 0]) (0 : Int32).toNatClampNeg (-1) = th_ar [-1, 0] := (th_put_ok (show th_put [0, 0] 0 2 (-1) = some [-1, 0] by decide +kernel)).2
    have e1 : upd (th_ar [-1, 0]) (1 : Int32).toNatClampNeg (-1) = th_ar [-1, -1] := (th_put_ok (show th_put [-1, 0] 1 2 (-1) = some [-1, -1] by decide +kernel)).2
    have z2 : th_ar [0, 0] = fun _ => 0 := th_zero 2
    rw [← e1, ← e0, z2]
    rfl
  have hq : post (4, 0, 0, 1, 0, 0, (fun _ => 0), (fun _ => 0), (fun _ => 0), (fun _ => 0), (fun _ => 0), th_ar [-1, -1, -1, -1, -1, -1, -1, -1, -1, -1, -1, -1], upd (upd (fun _ => 0) 0 (-1)) 1 (-1), (fun _ => 0)) := by
    rw [g]
    have hp' : post (4, 0, 0, 1, 0, 0, th_ar (th_q 0 0 0 0), th_ar (th_q 0 0 0 0), th_ar (th_q 0 0 0 0), (fun _ => 0), th_ar (th_q 0 0 0 0), th_ar [-1, -1, -1, -1, -1, -1, -1, -1, -1, -1, -1, -1], th_ar [-1, -1], th_ar [0, 0, 0]) := hp
    rw [z16, z3] at hp'
    exact hp'
  have hw := th_initL_ok (mc := 73) (ms := 1170) (kc := 8) (ks := 97) hq 13 0 _ th_f0
  rw [z12] at hw
  refine ⟨by decide, by decide, by decide, by decide, by decide, by decide, by decide, by decide, by decide, by decide, by decide, by decide, by decide, by decide, by decide, by decide, ?_⟩
  refine br_t (by decide) ?_
  refine br_t (by decide) ?_
  exact ⟨13, hw⟩
theorem th_mod (x : Int32) : th_3 ((x &&& 15) - (x &&& 15) / 3 * 3) := by
  obtain ⟨j, hj, e⟩ := pk_andE x (m := 15) 4 (by decide)
  have e2 : nI j - nI j / nI 3 * nI 3 = nI (j % 3) := pk_rem (by omega) (by omega) (by omega)
  have e3 : (x &&& 15) - (x &&& 15) / 3 * 3 = nI (j % 3) := by
    rw [e]
    exact e2
  rw [e3]
  have h3 : j % 3 = 0 ∨ j % 3 = 1 ∨ j % 3 = 2 := by omega
  rcases h3 with z | z | z
  · exact Or.inl (by rw [z]; rfl)
  · exact Or.inr (Or.inl (by rw [z]; rfl))
  · exact Or.inr (Or.inr (by rw [z]; rfl))
theorem th_lawOf {post : Int32 → St0 → Prop} {w n k : Int32} (hp : post 1 ()) : wpL_lawOf post 74 1184 () w n k := by
  refine ⟨by decide, by decide, 73, 1170, by decide, by decide, ?_⟩
  refine th_init_ok ?_
  refine ⟨by decide, ?_⟩
  intro t et
  refine ⟨by decide, ?_⟩
  intro u eu
  have ht : th_3 t := et ▸ th_mod w
  have hu : th_3 u := eu ▸ th_mod (w >>> ((4 : Int32) &&& 31))
  refine th_make1_ok (th_f1 ht) ?_
  refine th_copy_ok (th_f2 ht) ?_
  exact ⟨4, th_l48 ht hu hp⟩
theorem th_cellAt {post : Int32 → Prop} {L i : Nat} {xs : Nat → Int32} {p : Int32} (hL : L ≤ 3) (hi : i < 3) (e : p = nI i) (H : ∀ r, post r) : wpL_cellAt post L xs () p := by
  subst e
  exact pk_le L i (fun _ => H 0) (fun z => ⟨pk_in i L z, H _⟩)
theorem i_vc (xs : Nat → Int32) (L : Nat) (hL : L ≤ 3) : wpL_law (fun r => r = 1) L xs := by
  unfold wpL_law
  refine th_cellAt (i := 0) hL (by omega) rfl (fun r1 => ?_)
  refine th_cellAt (i := 1) hL (by omega) rfl (fun r2 => ?_)
  refine th_cellAt (i := 2) hL (by omega) rfl (fun r3 => ?_)
  refine ⟨74, 1184, by decide, by decide, ?_⟩
  exact th_lawOf rfl
end
