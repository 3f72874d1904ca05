section
/-- an array that holds the list l, and 0 behind it -/
def gc_la (l : List Int32) (j : Nat) : Int32 := l.getD j 0
def gc_st : List Int32 → Nat → Int32 → List Int32
  | [], 0, v => [v]
  | [], i + 1, v => 0 :: gc_st [] i v
  | _ :: t, 0, v => v :: t
  | x :: t, i + 1, v => x :: gc_st t i v
theorem gc_st_get : ∀ (i : Nat) (l : List Int32) (v : Int32) (j : Nat), (if j = i then v else l.getD j 0) = (gc_st l i v).getD j 0 := by
  intro i
  induction i with
  | zero =>
    intro l v j
    cases l <;> cases j <;> simp [gc_st]
  | succ i ih =>
    intro l v j
    cases l with
    | nil =>
      cases j with
      | zero => simp [gc_st]
      | succ j => simpa [gc_st] using ih [] v j
    | cons x t =>
      cases j with
      | zero => simp [gc_st]
      | succ j => simpa [gc_st] using ih t v j
theorem gc_upd (l : List Int32) (i : Nat) (v : Int32) : upd (gc_la l) i v = gc_la (gc_st l i v) := funext (fun j => gc_st_get i l v j)
theorem gc_la0 : (fun _ => 0 : Nat → Int32) = gc_la [] := funext (fun j => by simp [gc_la])
def gc_in (i : Int32) (n : Nat) : Bool := decide (¬ (i < 0 ∨ n ≤ i.toNatClampNeg))
theorem gc_in_ok {i : Int32} {n : Nat} (h : gc_in i n = true) : vp_in i n := by
  have g : ¬ (i < 0 ∨ n ≤ i.toNatClampNeg) := of_decide_eq_true h
  exact g
theorem gc_no {α : Type} {r : α} {P : Prop} (h : none = some r) : P := absurd h (fun z => nomatch z)
theorem gc_gs {α : Type} {i : Int32} {n : Nat} {A : Option α} {r : α} (h : (if gc_in i n = true then A else none) = some r) : vp_in i n ∧ A = some r := by
  by_cases c : gc_in i n = true
  · rw [if_pos c] at h
    exact ⟨gc_in_ok c, h⟩
  · rw [if_neg c] at h
    exact gc_no h
theorem gc_g {α : Type} {i : Int32} {n : Nat} {A : Option α} {r : α} {P : Prop} (h : (if gc_in i n = true then A else none) = some r) (f : A = some r → P) : vp_in i n ∧ P :=
  ⟨(gc_gs h).1, f (gc_gs h).2⟩
theorem gc_if {α : Type} {c : Prop} {d : Decidable c} {A B : Option α} {r : α} {P Q : Prop} (h : (@ite (Option α) c d A B) = some r) (f : c → A = some r → P) (g : ¬ c → B = some r → Q) : (c → P) ∧ (¬ c → Q) := by
  constructor
  · intro hc
    rw [if_pos hc] at h
    exact f hc h
  · intro hc
    rw [if_neg hc] at h
    exact g hc h
theorem gc_bd {α β : Type} {x : Option β} {k : β → Option α} {r : α} {P : Prop} (h : x.bind k = some r) (f : ∀ y, x = some y → k y = some r → P) : P := by
  cases x with
  | none => exact gc_no h
  | some y => exact f y rfl h
theorem gc_so {α : Type} {x y : α} {P : α → Prop} (h : some x = some y) (hp : P y) : P x := by
  rw [Option.some.inj h]
  exact hp
end
section
section
variable {f0 f1 f2 f3 f4 f5 f6 f7 : Int32} {a1 a2 a3 a4 a5 a6 a7 a8 a9 a10 a11 a12 a13 a14 a15 a16 a17 : Nat → Int32}
def gc_liveAt (len : Int32) (l6 : List Int32) (p : Int32) : Option Int32 :=
  if len ≤ p then some 0 else if gc_in p 32 = true then some (gc_la l6 p.toNatClampNeg) else none
theorem gv_liveAt {post : Int32 → Prop} {l6 : List Int32} {p r : Int32} (h : gc_liveAt f0 l6 p = some r) (hp : post r) : wpX_liveAt post (f0, f1, f2, f3, f4, f5, f6, f7, a1, a2, a3, a4, a5, gc_la l6, a7, a8, a9, a10, a11, a12, a13, a14, a15, a16, a17) p :=
  gc_if h (fun _ h => gc_so h hp) (fun _ h => gc_g h (fun h => gc_so h hp))
def gc_la68 (len : Int32) (l3 l4 l6 : List Int32) (x1 : Int32) : Nat → Int32 → Int32 → Option Int32
  | 0, _, _ => none
  | n + 1, x3, x4 => if gc_in x1 32 = true then (if gc_la l4 x1.toNatClampNeg ≤ x4 then some x3 else (if gc_in x1 32 = true then (gc_liveAt len l6 (gc_la l3 x1.toNatClampNeg + x4)).bind (fun r => gc_la68 len l3 l4 l6 x1 n (x3 ||| r) (x4 + 1)) else none)) else none
theorem gv_la68 {post : Int32 → Prop} {l3 l4 l6 : List Int32} {x1 r : Int32} (hp : post r) : ∀ (n : Nat) (x3 x4 : Int32), gc_la68 f0 l3 l4 l6 x1 n x3 x4 = some r → wX_liveAfter_68 post x1 f0 f1 f2 f3 f4 f5 f6 f7 a1 a2 (gc_la l3) (gc_la l4) a5 (gc_la l6) a7 a8 a9 a10 a11 a12 a13 a14 a15 a16 a17 n x3 x4 := by
  intro n
  induction n with
  | zero => exact fun _ _ h => gc_no h
  | succ n ih =>
    intro x3 x4 h
    exact gc_g h (fun h => gc_if h (fun _ h => gc_so h hp) (fun _ h => gc_g h (fun h => gc_bd h (fun y hy h => gv_liveAt hy (nm_e (nm_e (ih _ _ h)))))))
def gc_la59 (len : Int32) (l3 l4 l6 : List Int32) (x1 x2 x3 : Int32) : Option Int32 :=
  if x2 = 9 then gc_la68 len l3 l4 l6 x1 9 x3 0 else some x3
theorem gv_la59 {post : Int32 → Prop} {l3 l4 l6 : List Int32} {x1 x2 x3 r : Int32} (hp : post r) (h : gc_la59 f0 l3 l4 l6 x1 x2 x3 = some r) : wX_liveAfter_59 post x1 x2 x3 f0 f1 f2 f3 f4 f5 f6 f7 a1 a2 (gc_la l3) (gc_la l4) a5 (gc_la l6) a7 a8 a9 a10 a11 a12 a13 a14 a15 a16 a17 :=
  gc_if h (fun _ h => ⟨9, gv_la68 hp 9 x3 0 h⟩) (fun _ h => gc_so h hp)
def gc_liveAfter (len : Int32) (l1 l2 l3 l4 l6 : List Int32) (p : Int32) : Option Int32 :=
  if gc_in p 32 = true then (if gc_la l1 p.toNatClampNeg = 10 then some 0 else if gc_la l1 p.toNatClampNeg = 7 then (if gc_in p 32 = true then gc_liveAt len l6 (gc_la l2 p.toNatClampNeg) else none) else
    (gc_liveAt len l6 (p + 1)).bind (fun r5 => if gc_la l1 p.toNatClampNeg = 8 then (if gc_in p 32 = true then (gc_liveAt len l6 (gc_la l3 p.toNatClampNeg)).bind (fun r15 => gc_la59 len l3 l4 l6 p (gc_la l1 p.toNatClampNeg) (r5 ||| r15)) else none) else gc_la59 len l3 l4 l6 p (gc_la l1 p.toNatClampNeg) r5)) else none
theorem gv_liveAfter {post : Int32 → Prop} {l1 l2 l3 l4 l6 : List Int32} {p r : Int32} (h : gc_liveAfter f0 l1 l2 l3 l4 l6 p = some r) (hp : post r) : wpX_liveAfter post (f0, f1, f2, f3, f4, f5, f6, f7, gc_la l1, gc_la l2, gc_la l3, gc_la l4, a5, gc_la l6, a7, a8, a9, a10, a11, a12, a13, a14, a15, a16, a17) p :=
  gc_g h (fun h => nm_e (gc_if h (fun _ h => gc_so h hp) (fun _ h => gc_if h (fun _ h => gc_g h (fun h => gv_liveAt h hp)) (fun _ h => gc_bd h (fun r5 h5 h => gv_liveAt h5
    (gc_if h (fun _ h => gc_g h (fun h => gc_bd h (fun r15 h15 h => gv_liveAt h15 (nm_e (gv_la59 hp h))))) (fun _ h => gv_la59 hp h)))))))
def gc_rb67 (l2 : List Int32) (p : Int32) : Option Int32 := if gc_in p 32 = true then some ((1 : Int32) <<< ((gc_la l2 p.toNatClampNeg) &&& 31)) else none
def gc_rb49 (l2 : List Int32) (p x2 : Int32) : Option Int32 := if x2 = 6 then gc_rb67 l2 p else if x2 = 8 then gc_rb67 l2 p else if x2 = 9 then gc_rb67 l2 p else some 0
def gc_readBy (l1 l2 l3 l4 : List Int32) (p : Int32) : Option Int32 :=
  if gc_in p 32 = true then (if gc_la l1 p.toNatClampNeg = 1 then (if gc_in p 32 = true then some ((1 : Int32) <<< ((gc_la l3 p.toNatClampNeg) &&& 31)) else none) else if gc_la l1 p.toNatClampNeg < 2 then gc_rb49 l2 p (gc_la l1 p.toNatClampNeg) else if 5 < gc_la l1 p.toNatClampNeg then gc_rb49 l2 p (gc_la l1 p.toNatClampNeg) else
    (if gc_in p 32 = true then (if gc_in p 32 = true then some (((1 : Int32) <<< ((gc_la l3 p.toNatClampNeg) &&& 31)) ||| ((1 : Int32) <<< ((gc_la l4 p.toNatClampNeg) &&& 31))) else none) else none)) else none
theorem gv_rb67 {post : Int32 → Prop} {l2 : List Int32} {p r : Int32} (hp : post r) (h : gc_rb67 l2 p = some r) : wX_readBy_67 post p f0 f1 f2 f3 f4 f5 f6 f7 a1 (gc_la l2) a3 a4 a5 a6 a7 a8 a9 a10 a11 a12 a13 a14 a15 a16 a17 :=
  gc_g h (fun h => gc_so h hp)
theorem gv_rb49 {post : Int32 → Prop} {l2 : List Int32} {p x2 r : Int32} (hp : post r) (h : gc_rb49 l2 p x2 = some r) : wX_readBy_49 post p x2 f0 f1 f2 f3 f4 f5 f6 f7 a1 (gc_la l2) a3 a4 a5 a6 a7 a8 a9 a10 a11 a12 a13 a14 a15 a16 a17 :=
  gc_if h (fun _ h => gv_rb67 hp h) (fun _ h => gc_if h (fun _ h => gv_rb67 hp h) (fun _ h => gc_if h (fun _ h => gv_rb67 hp h) (fun _ h => gc_so h hp)))
theorem gv_readBy {post : Int32 → Prop} {l1 l2 l3 l4 : List Int32} {p r : Int32} (h : gc_readBy l1 l2 l3 l4 p = some r) (hp : post r) : wpX_readBy post (f0, f1, f2, f3, f4, f5, f6, f7, gc_la l1, gc_la l2, gc_la l3, gc_la l4, a5, a6, a7, a8, a9, a10, a11, a12, a13, a14, a15, a16, a17) p :=
  gc_g h (fun h => nm_e (gc_if h (fun _ h => gc_g h (fun h => gc_so h hp)) (fun _ h => gc_if h (fun _ h => gv_rb49 hp h) (fun _ h => gc_if h (fun _ h => gv_rb49 hp h) (fun _ h => gc_g h (fun h => gc_g h (fun h => gc_so h hp)))))))
def gc_writtenBy (l1 l2 : List Int32) (p : Int32) : Option Int32 :=
  if gc_in p 32 = true then (if 5 < gc_la l1 p.toNatClampNeg then some 0 else if gc_in p 32 = true then some ((1 : Int32) <<< ((gc_la l2 p.toNatClampNeg) &&& 31)) else none) else none
theorem gv_writtenBy {post : Int32 → Prop} {l1 l2 : List Int32} {p r : Int32} (h : gc_writtenBy l1 l2 p = some r) (hp : post r) : wpX_writtenBy post (f0, f1, f2, f3, f4, f5, f6, f7, gc_la l1, gc_la l2, a3, a4, a5, a6, a7, a8, a9, a10, a11, a12, a13, a14, a15, a16, a17) p :=
  gc_g h (fun h => gc_if h (fun _ h => gc_so h hp) (fun _ h => gc_g h (fun h => gc_so h hp)))
def gc_fl45 (len : Int32) (l1 l2 l3 l4 : List Int32) : Nat → Int32 → Int32 → List Int32 → Option (Int32 × List Int32)
  | 0, _, _, _ => none
  | n + 1, x1, x3, l6 => if x3 < 0 then some (x1, l6) else (gc_liveAfter len l1 l2 l3 l4 l6 x3).bind (fun r7 => (gc_readBy l1 l2 l3 l4 x3).bind (fun r8 => (gc_writtenBy l1 l2 x3).bind (fun r9 =>
      if gc_in x3 32 = true then (if r8 ||| (r7 &&& (r9 ^^^ (-1))) = gc_la l6 x3.toNatClampNeg
        then (if gc_in x3 32 = true then gc_fl45 len l1 l2 l3 l4 n x1 (x3 + (-1)) (gc_st l6 x3.toNatClampNeg (r8 ||| (r7 &&& (r9 ^^^ (-1))))) else none)
        else (if gc_in x3 32 = true then gc_fl45 len l1 l2 l3 l4 n 1 (x3 + (-1)) (gc_st l6 x3.toNatClampNeg (r8 ||| (r7 &&& (r9 ^^^ (-1))))) else none)) else none)))
theorem gv_fl45 {post : St2 → Prop} {J : Int32 → Int32 → (Nat → Int32) → (Nat → Int32) → (Nat → Int32) → (Nat → Int32) → (Nat → Int32) → (Nat → Int32) → (Nat → Int32) → (Nat → Int32) → (Nat → Int32) → (Nat → Int32) → (Nat → Int32) → (Nat → Int32) → (Nat → Int32) → (Nat → Int32) → (Nat → Int32) → (Nat → Int32) → (Nat → Int32) → Prop} {x2 : Int32} {l1 l2 l3 l4 : List Int32} {q : Int32 × List Int32} (hJ : J q.1 (x2 + 1) (gc_la l1) (gc_la l2) (gc_la l3) (gc_la l4) a5 (gc_la q.2) a7 a8 a9 a10 a11 a12 a13 a14 a15 a16 a17) :
    ∀ (n : Nat) (x1 x3 : Int32) (l6 : List Int32), gc_fl45 f0 l1 l2 l3 l4 n x1 x3 l6 = some q → wX_findLiveness_45 post J x2 f0 f1 f2 f3 f4 f5 f6 f7 n x1 x3 (gc_la l1) (gc_la l2) (gc_la l3) (gc_la l4) a5 (gc_la l6) a7 a8 a9 a10 a11 a12 a13 a14 a15 a16 a17 := by
  intro n
  induction n with
  | zero => exact fun _ _ _ h => gc_no h
  | succ n ih =>
    intro x1 x3 l6 h
    refine gc_if h (fun _ h => nm_e ?_) (fun _ h => gc_bd h (fun r7 h7 h => gv_liveAfter h7 (gc_bd h (fun r8 h8 h => gv_readBy h8 (gc_bd h (fun r9 h9 h => gv_writtenBy h9 (nm_e (gc_g h (fun h =>
      gc_if h (fun _ h => gc_g h (fun h => nm_r (gc_upd _ _ _) (nm_e (ih _ _ _ h)))) (fun _ h => gc_g h (fun h => nm_r (gc_upd _ _ _) (nm_e (ih _ _ _ h)))))))))))))
    have e := Option.some.inj h
    rw [← e] at hJ
    exact hJ
def gc_fl25 (len : Int32) (l1 l2 l3 l4 : List Int32) : Nat → Int32 → Int32 → List Int32 → Option (List Int32)
  | 0, _, _, _ => none
  | n + 1, x1, x2, l6 => if 257 ≤ x2 then some l6 else if x1 = 0 then some l6 else (gc_fl45 len l1 l2 l3 l4 40 0 (len - 1) l6).bind (fun q => gc_fl25 len l1 l2 l3 l4 n q.1 (x2 + 1) q.2)
theorem gv_fl25 {post : St2 → Prop} {l1 l2 l3 l4 l6' : List Int32} (hp : post (f0, f1, f2, f3, f4, f5, f6, f7, gc_la l1, gc_la l2, gc_la l3, gc_la l4, a5, gc_la l6', a7, a8, a9, a10, a11, a12, a13, a14, a15, a16, a17)) :
    ∀ (n : Nat) (x1 x2 : Int32) (l6 : List Int32), gc_fl25 f0 l1 l2 l3 l4 n x1 x2 l6 = some l6' → wX_findLiveness_25 post f0 f1 f2 f3 f4 f5 f6 f7 n x1 x2 (gc_la l1) (gc_la l2) (gc_la l3) (gc_la l4) a5 (gc_la l6) a7 a8 a9 a10 a11 a12 a13 a14 a15 a16 a17 := by
  intro n
  induction n with
  | zero => exact fun _ _ _ h => gc_no h
  | succ n ih =>
    intro x1 x2 l6 h
    exact gc_if h (fun _ h => gc_so (P := fun l => post (f0, f1, f2, f3, f4, f5, f6, f7, gc_la l1, gc_la l2, gc_la l3, gc_la l4, a5, gc_la l, a7, a8, a9, a10, a11, a12, a13, a14, a15, a16, a17)) h hp) (fun _ h => gc_if h (fun _ h => gc_so (P := fun l => post (f0, f1, f2, f3, f4, f5, f6, f7, gc_la l1, gc_la l2, gc_la l3, gc_la l4, a5, gc_la l, a7, a8, a9, a10, a11, a12, a13, a14, a15, a16, a17)) h hp)
      (fun _ h => gc_bd h (fun q hq h => nm_e ⟨40, gv_fl45 (ih _ _ _ h) 40 0 _ l6 hq⟩)))
def gc_fl4 (len : Int32) (l1 l2 l3 l4 : List Int32) (x1 : Int32) : Nat → Int32 → List Int32 → Option (List Int32)
  | 0, _, _ => none
  | n + 1, x2, l6 => if 32 ≤ x2 then gc_fl25 len l1 l2 l3 l4 10 x1 0 l6 else if gc_in x2 32 = true then gc_fl4 len l1 l2 l3 l4 x1 n (x2 + 1) (gc_st l6 x2.toNatClampNeg 0) else none
theorem gv_fl4 {post : St2 → Prop} {x1 : Int32} {l1 l2 l3 l4 l6' : List Int32} (hp : post (f0, f1, f2, f3, f4, f5, f6, f7, gc_la l1, gc_la l2, gc_la l3, gc_la l4, a5, gc_la l6', a7, a8, a9, a10, a11, a12, a13, a14, a15, a16, a17)) :
    ∀ (n : Nat) (x2 : Int32) (l6 : List Int32), gc_fl4 f0 l1 l2 l3 l4 x1 n x2 l6 = some l6' → wX_findLiveness_4 post x1 f0 f1 f2 f3 f4 f5 f6 f7 n x2 (gc_la l1) (gc_la l2) (gc_la l3) (gc_la l4) a5 (gc_la l6) a7 a8 a9 a10 a11 a12 a13 a14 a15 a16 a17 := by
  intro n
  induction n with
  | zero => exact fun _ _ h => gc_no h
  | succ n ih =>
    intro x2 l6 h
    exact gc_if h (fun _ h => ⟨10, gv_fl25 hp 10 _ _ _ h⟩) (fun _ h => gc_g h (fun h => nm_r (gc_upd _ _ _) (nm_e (ih _ _ h))))
def gc_findLiveness (len : Int32) (l1 l2 l3 l4 l6 : List Int32) : Option (List Int32) := gc_fl4 len l1 l2 l3 l4 1 40 0 l6
theorem gv_findLiveness {post : St2 → Prop} {l1 l2 l3 l4 l6 l6' : List Int32} (h : gc_findLiveness f0 l1 l2 l3 l4 l6 = some l6') (hp : post (f0, f1, f2, f3, f4, f5, f6, f7, gc_la l1, gc_la l2, gc_la l3, gc_la l4, a5, gc_la l6', a7, a8, a9, a10, a11, a12, a13, a14, a15, a16, a17)) : wpX_findLiveness post (f0, f1, f2, f3, f4, f5, f6, f7, gc_la l1, gc_la l2, gc_la l3, gc_la l4, a5, gc_la l6, a7, a8, a9, a10, a11, a12, a13, a14, a15, a16, a17) :=
  ⟨40, gv_fl4 hp 40 0 l6 h⟩
end
end
section
section
variable {f0 f1 f2 f3 f4 f5 f6 f7 : Int32} {a1 a2 a3 a4 a5 a6 a7 a8 a9 a10 a11 a12 a13 a14 a15 a16 a17 : Nat → Int32}
def gc_mr42 (x3 x4 : Int32) : Nat → Int32 → List Int32 → Option (List Int32)
  | 0, _, _ => none
  | n + 1, x5, l7 => if 8 ≤ x5 then some l7 else if ((x4 >>> (x5 &&& 31)) &&& 1) = 0 then gc_mr42 x3 x4 n (x5 + 1) l7 else
      if gc_in x5 8 = true then (if gc_in x5 8 = true then gc_mr42 x3 x4 n (x5 + 1) (gc_st l7 x5.toNatClampNeg ((gc_la l7 x5.toNatClampNeg) ||| ((1 : Int32) <<< (x3 &&& 31)))) else none) else none
theorem gv_mr42 {post : St2 → Prop} {J : Int32 → (Nat → Int32) → (Nat → Int32) → (Nat → Int32) → (Nat → Int32) → (Nat → Int32) → (Nat → Int32) → (Nat → Int32) → (Nat → Int32) → (Nat → Int32) → (Nat → Int32) → (Nat → Int32) → (Nat → Int32) → (Nat → Int32) → (Nat → Int32) → (Nat → Int32) → (Nat → Int32) → (Nat → Int32) → Prop} {x1 x2 x3 x4 : Int32} {l7' : List Int32} (hJ : J (x3 + 1) a1 a2 a3 a4 a5 a6 (gc_la l7') a8 a9 a10 a11 a12 a13 a14 a15 a16 a17) :
    ∀ (n : Nat) (x5 : Int32) (l7 : List Int32), gc_mr42 x3 x4 n x5 l7 = some l7' → wX_makeRivals_42 post J x1 x2 x3 x4 f0 f1 f2 f3 f4 f5 f6 f7 n x5 a1 a2 a3 a4 a5 a6 (gc_la l7) a8 a9 a10 a11 a12 a13 a14 a15 a16 a17 := by
  intro n
  induction n with
  | zero => exact fun _ _ h => gc_no h
  | succ n ih =>
    intro x5 l7 h
    exact gc_if h (fun _ h => nm_e (gc_so (P := fun l => J (x3 + 1) a1 a2 a3 a4 a5 a6 (gc_la l) a8 a9 a10 a11 a12 a13 a14 a15 a16 a17) h hJ)) (fun _ h => gc_if h (fun _ h => nm_e (ih _ _ h))
      (fun _ h => gc_g h (fun h => gc_g h (fun h => nm_r (gc_upd _ _ _) (nm_e (ih _ _ h))))))
def gc_mr2 (x1 x2 : Int32) : Nat → Int32 → List Int32 → Option (List Int32)
  | 0, _, _ => none
  | n + 1, x3, l7 => if 8 ≤ x3 then some l7 else if ((x1 >>> (x3 &&& 31)) &&& 1) = 0 then gc_mr2 x1 x2 n (x3 + 1) l7 else
      if gc_in x3 8 = true then (if gc_in x3 8 = true then (gc_mr42 x3 (x2 &&& (((1 : Int32) <<< (x3 &&& 31)) ^^^ (-1))) 12 0 (gc_st l7 x3.toNatClampNeg ((gc_la l7 x3.toNatClampNeg) ||| (x2 &&& (((1 : Int32) <<< (x3 &&& 31)) ^^^ (-1)))))).bind (fun l => gc_mr2 x1 x2 n (x3 + 1) l) else none) else none
theorem gv_mr2 {post : St2 → Prop} {x1 x2 : Int32} {l7' : List Int32} (hp : post (f0, f1, f2, f3, f4, f5, f6, f7, a1, a2, a3, a4, a5, a6, gc_la l7', a8, a9, a10, a11, a12, a13, a14, a15, a16, a17)) :
    ∀ (n : Nat) (x3 : Int32) (l7 : List Int32), gc_mr2 x1 x2 n x3 l7 = some l7' → wX_makeRivals_2 post x1 x2 f0 f1 f2 f3 f4 f5 f6 f7 n x3 a1 a2 a3 a4 a5 a6 (gc_la l7) a8 a9 a10 a11 a12 a13 a14 a15 a16 a17 := by
  intro n
  induction n with
  | zero => exact fun _ _ h => gc_no h
  | succ n ih =>
    intro x3 l7 h
    exact gc_if h (fun _ h => gc_so (P := fun l => post (f0, f1, f2, f3, f4, f5, f6, f7, a1, a2, a3, a4, a5, a6, gc_la l, a8, a9, a10, a11, a12, a13, a14, a15, a16, a17)) h hp) (fun _ h => gc_if h (fun _ h => nm_e (ih _ _ h))
      (fun _ h => nm_e (gc_g h (fun h => gc_g h (fun h => nm_r (gc_upd _ _ _) (gc_bd h (fun l hl h => ⟨12, gv_mr42 (ih _ _ h) 12 0 _ hl⟩)))))))
def gc_makeRivals (x1 x2 : Int32) (l7 : List Int32) : Option (List Int32) := gc_mr2 x1 x2 12 0 l7
theorem gv_makeRivals {post : St2 → Prop} {x1 x2 : Int32} {l7 l7' : List Int32} (h : gc_makeRivals x1 x2 l7 = some l7') (hp : post (f0, f1, f2, f3, f4, f5, f6, f7, a1, a2, a3, a4, a5, a6, gc_la l7', a8, a9, a10, a11, a12, a13, a14, a15, a16, a17)) : wpX_makeRivals post (f0, f1, f2, f3, f4, f5, f6, f7, a1, a2, a3, a4, a5, a6, gc_la l7, a8, a9, a10, a11, a12, a13, a14, a15, a16, a17) x1 x2 :=
  ⟨12, gv_mr2 hp 12 0 l7 h⟩
def gc_fr35 (len : Int32) (l1 l2 l3 l4 l6 : List Int32) : Nat → Int32 → List Int32 → Option (List Int32)
  | 0, _, _ => none
  | n + 1, x2, l7 => if len ≤ x2 then some l7 else (gc_writtenBy l1 l2 x2).bind (fun r64 => (gc_liveAfter len l1 l2 l3 l4 l6 x2).bind (fun r65 => (gc_makeRivals r64 r65 l7).bind (fun l => gc_fr35 len l1 l2 l3 l4 l6 n (x2 + 1) l)))
theorem gv_fr35 {post : St2 → Prop} {l1 l2 l3 l4 l6 l7' : List Int32} (hp : post (f0, f1, f2, f3, f4, f5, f6, f7, gc_la l1, gc_la l2, gc_la l3, gc_la l4, a5, gc_la l6, gc_la l7', a8, a9, a10, a11, a12, a13, a14, a15, a16, a17)) :
    ∀ (n : Nat) (x2 : Int32) (l7 : List Int32), gc_fr35 f0 l1 l2 l3 l4 l6 n x2 l7 = some l7' → wX_findRivals_35 post n x2 f0 f1 f2 f3 f4 f5 f6 f7 (gc_la l1) (gc_la l2) (gc_la l3) (gc_la l4) a5 (gc_la l6) (gc_la l7) a8 a9 a10 a11 a12 a13 a14 a15 a16 a17 := by
  intro n
  induction n with
  | zero => exact fun _ _ h => gc_no h
  | succ n ih =>
    intro x2 l7 h
    exact gc_if h (fun _ h => gc_so (P := fun l => post (f0, f1, f2, f3, f4, f5, f6, f7, gc_la l1, gc_la l2, gc_la l3, gc_la l4, a5, gc_la l6, gc_la l, a8, a9, a10, a11, a12, a13, a14, a15, a16, a17)) h hp) (fun _ h => gc_bd h (fun r64 h64 h => gv_writtenBy h64 (gc_bd h (fun r65 h65 h => gv_liveAfter h65
      (gc_bd h (fun l hl h => gv_makeRivals hl (nm_e (ih _ _ h))))))))
def gc_fr2 (len : Int32) (l1 l2 l3 l4 l6 : List Int32) : Nat → Int32 → List Int32 → Option (List Int32)
  | 0, _, _ => none
  | n + 1, x1, l7 => if 8 ≤ x1 then (gc_liveAt len l6 0).bind (fun r2 => (gc_makeRivals r2 r2 l7).bind (fun l => gc_fr35 len l1 l2 l3 l4 l6 40 0 l)) else if gc_in x1 8 = true then gc_fr2 len l1 l2 l3 l4 l6 n (x1 + 1) (gc_st l7 x1.toNatClampNeg 0) else none
theorem gv_fr2 {post : St2 → Prop} {l1 l2 l3 l4 l6 l7' : List Int32} (hp : post (f0, f1, f2, f3, f4, f5, f6, f7, gc_la l1, gc_la l2, gc_la l3, gc_la l4, a5, gc_la l6, gc_la l7', a8, a9, a10, a11, a12, a13, a14, a15, a16, a17)) :
    ∀ (n : Nat) (x1 : Int32) (l7 : List Int32), gc_fr2 f0 l1 l2 l3 l4 l6 n x1 l7 = some l7' → wX_findRivals_2 post f0 f1 f2 f3 f4 f5 f6 f7 n x1 (gc_la l1) (gc_la l2) (gc_la l3) (gc_la l4) a5 (gc_la l6) (gc_la l7) a8 a9 a10 a11 a12 a13 a14 a15 a16 a17 := by
  intro n
  induction n with
  | zero => exact fun _ _ h => gc_no h
  | succ n ih =>
    intro x1 l7 h
    exact gc_if h (fun _ h => gc_bd h (fun r2 h2 h => gv_liveAt h2 (gc_bd h (fun l hl h => gv_makeRivals hl ⟨40, gv_fr35 hp 40 0 l h⟩)))) (fun _ h => gc_g h (fun h => nm_r (gc_upd _ _ _) (nm_e (ih _ _ h))))
def gc_findRivals (len : Int32) (l1 l2 l3 l4 l6 l7 : List Int32) : Option (List Int32) := gc_fr2 len l1 l2 l3 l4 l6 12 0 l7
theorem gv_findRivals {post : St2 → Prop} {l1 l2 l3 l4 l6 l7 l7' : List Int32} (h : gc_findRivals f0 l1 l2 l3 l4 l6 l7 = some l7') (hp : post (f0, f1, f2, f3, f4, f5, f6, f7, gc_la l1, gc_la l2, gc_la l3, gc_la l4, a5, gc_la l6, gc_la l7', a8, a9, a10, a11, a12, a13, a14, a15, a16, a17)) : wpX_findRivals post (f0, f1, f2, f3, f4, f5, f6, f7, gc_la l1, gc_la l2, gc_la l3, gc_la l4, a5, gc_la l6, gc_la l7, a8, a9, a10, a11, a12, a13, a14, a15, a16, a17) :=
  ⟨12, gv_fr2 hp 12 0 l7 h⟩
end
end
section
section
variable {f0 f1 f2 f3 f4 f5 f6 f7 : Int32} {a1 a2 a3 a4 a5 a6 a7 a8 a9 a10 a11 a12 a13 a14 a15 a16 a17 : Nat → Int32}
def gc_fc37 (x2 : Int32) : Nat → Int32 → Option Int32
  | 0, _ => none
  | n + 1, x3 => if 3 ≤ x3 then some (-1) else if ((x2 >>> (x3 &&& 31)) &&& 1) = 0 then some x3 else gc_fc37 x2 n (x3 + 1)
theorem gv_fc37 {post : Int32 → Prop} {x2 r : Int32} (hp : post r) : ∀ (n : Nat) (x3 : Int32), gc_fc37 x2 n x3 = some r → wX_freeColour_37 post x2 f0 f1 f2 f3 f4 f5 f6 f7 a1 a2 a3 a4 a5 a6 a7 a8 a9 a10 a11 a12 a13 a14 a15 a16 a17 n x3 := by
  intro n
  induction n with
  | zero => exact fun _ h => gc_no h
  | succ n ih =>
    intro x3 h
    exact gc_if h (fun _ h => gc_so h hp) (fun _ h => gc_if h (fun _ h => gc_so h hp) (fun _ h => nm_e (ih _ h)))
def gc_fc4 (l8 : List Int32) (x1 : Int32) : Nat → Int32 → Int32 → Option Int32
  | 0, _, _ => none
  | n + 1, x2, x3 => if 8 ≤ x3 then gc_fc37 x2 5 0 else if ((x1 >>> (x3 &&& 31)) &&& 1) = 0 then gc_fc4 l8 x1 n x2 (x3 + 1) else if gc_in x3 8 = true then gc_fc4 l8 x1 n (x2 ||| ((1 : Int32) <<< ((gc_la l8 x3.toNatClampNeg) &&& 31))) (x3 + 1) else none
theorem gv_fc4 {post : Int32 → Prop} {l8 : List Int32} {x1 r : Int32} (hp : post r) : ∀ (n : Nat) (x2 x3 : Int32), gc_fc4 l8 x1 n x2 x3 = some r → wX_freeColour_4 post x1 f0 f1 f2 f3 f4 f5 f6 f7 a1 a2 a3 a4 a5 a6 a7 (gc_la l8) a9 a10 a11 a12 a13 a14 a15 a16 a17 n x2 x3 := by
  intro n
  induction n with
  | zero => exact fun _ _ h => gc_no h
  | succ n ih =>
    intro x2 x3 h
    exact gc_if h (fun _ h => ⟨5, gv_fc37 hp 5 0 h⟩) (fun _ h => gc_if h (fun _ h => nm_e (ih _ _ h)) (fun _ h => gc_g h (fun h => nm_e (nm_e (ih _ _ h)))))
def gc_freeColour (l8 : List Int32) (x1 : Int32) : Option Int32 := gc_fc4 l8 x1 12 0 0
theorem gv_freeColour {post : Int32 → Prop} {l8 : List Int32} {x1 r : Int32} (h : gc_freeColour l8 x1 = some r) (hp : post r) : wpX_freeColour post (f0, f1, f2, f3, f4, f5, f6, f7, a1, a2, a3, a4, a5, a6, a7, gc_la l8, a9, a10, a11, a12, a13, a14, a15, a16, a17) x1 := ⟨12, gv_fc4 hp 12 0 0 h⟩
def gc_bi4 (x1 : Int32) : Nat → Int32 → Int32 → Option Int32
  | 0, _, _ => none
  | n + 1, x2, x3 => if 8 ≤ x3 then some x2 else gc_bi4 x1 n (x2 + ((x1 >>> (x3 &&& 31)) &&& 1)) (x3 + 1)
theorem gv_bi4 {post : Int32 → Prop} {x1 r : Int32} (hp : post r) : ∀ (n : Nat) (x2 x3 : Int32), gc_bi4 x1 n x2 x3 = some r → wX_bitsIn_4 post x1 f0 f1 f2 f3 f4 f5 f6 f7 a1 a2 a3 a4 a5 a6 a7 a8 a9 a10 a11 a12 a13 a14 a15 a16 a17 n x2 x3 := by
  intro n
  induction n with
  | zero => exact fun _ _ h => gc_no h
  | succ n ih =>
    intro x2 x3 h
    exact gc_if h (fun _ h => gc_so h hp) (fun _ h => nm_e (nm_e (ih _ _ h)))
def gc_bitsIn (x1 : Int32) : Option Int32 := gc_bi4 x1 12 0 0
theorem gv_bitsIn {post : Int32 → Prop} {x1 r : Int32} (h : gc_bitsIn x1 = some r) (hp : post r) : wpX_bitsIn post (f0, f1, f2, f3, f4, f5, f6, f7, a1, a2, a3, a4, a5, a6, a7, a8, a9, a10, a11, a12, a13, a14, a15, a16, a17) x1 := ⟨12, gv_bi4 hp 12 0 0 h⟩
def gc_ea7 (l7 : List Int32) (x1 : Int32) : Nat → Int32 → Int32 → Int32 → Option Int32
  | 0, _, _, _ => none
  | n + 1, x2, x3, x4 => if 8 ≤ x4 then some x2 else if ((x1 >>> (x4 &&& 31)) &&& 1) = 0 then gc_ea7 l7 x1 n x2 x3 (x4 + 1) else
      if gc_in x4 8 = true then (gc_bitsIn ((gc_la l7 x4.toNatClampNeg) &&& x1)).bind (fun r4 => if 3 ≤ r4 then (if r4 ≤ x3 then gc_ea7 l7 x1 n x2 x3 (x4 + 1) else gc_ea7 l7 x1 n x4 r4 (x4 + 1)) else some x4) else none
theorem gv_ea7 {post : Int32 → Prop} {l7 : List Int32} {x1 r : Int32} (hp : post r) : ∀ (n : Nat) (x2 x3 x4 : Int32), gc_ea7 l7 x1 n x2 x3 x4 = some r → wX_easiest_7 post x1 f0 f1 f2 f3 f4 f5 f6 f7 a1 a2 a3 a4 a5 a6 (gc_la l7) a8 a9 a10 a11 a12 a13 a14 a15 a16 a17 n x2 x3 x4 := by
  intro n
  induction n with
  | zero => exact fun _ _ _ h => gc_no h
  | succ n ih =>
    intro x2 x3 x4 h
    exact gc_if h (fun _ h => gc_so h hp) (fun _ h => gc_if h (fun _ h => nm_e (ih _ _ _ h)) (fun _ h => gc_g h (fun h => gc_bd h (fun r4 h4 h => gv_bitsIn h4
      (gc_if h (fun _ h => gc_if h (fun _ h => nm_e (ih _ _ _ h)) (fun _ h => nm_e (ih _ _ _ h))) (fun _ h => gc_so h hp))))))
def gc_easiest (l7 : List Int32) (x1 : Int32) : Option Int32 := gc_ea7 l7 x1 12 (-1) (-1) 0
theorem gv_easiest {post : Int32 → Prop} {l7 : List Int32} {x1 r : Int32} (h : gc_easiest l7 x1 = some r) (hp : post r) : wpX_easiest post (f0, f1, f2, f3, f4, f5, f6, f7, a1, a2, a3, a4, a5, a6, gc_la l7, a8, a9, a10, a11, a12, a13, a14, a15, a16, a17) x1 := ⟨12, gv_ea7 hp 12 (-1) (-1) 0 h⟩
def gc_cv45 (l7 l9 : List Int32) : Nat → Int32 → Int32 → List Int32 → Option (List Int32)
  | 0, _, _, _ => none
  | n + 1, x2, x3, l8 => if x3 < 0 then some l8 else if gc_in x3 8 = true then (if gc_in (gc_la l9 x3.toNatClampNeg) 8 = true then (gc_freeColour l8 ((gc_la l7 (gc_la l9 x3.toNatClampNeg).toNatClampNeg) &&& x2)).bind (fun r6 =>
      if gc_in (gc_la l9 x3.toNatClampNeg) 8 = true then (if gc_in (gc_la l9 x3.toNatClampNeg) 8 = true then
        (if gc_la (gc_st l8 (gc_la l9 x3.toNatClampNeg).toNatClampNeg r6.toInt8.toInt32) (gc_la l9 x3.toNatClampNeg).toNatClampNeg < 0 then gc_cv45 l7 l9 n x2 (x3 + (-1)) (gc_st l8 (gc_la l9 x3.toNatClampNeg).toNatClampNeg r6.toInt8.toInt32)
          else gc_cv45 l7 l9 n (x2 ||| ((1 : Int32) <<< ((gc_la l9 x3.toNatClampNeg) &&& 31))) (x3 + (-1)) (gc_st l8 (gc_la l9 x3.toNatClampNeg).toNatClampNeg r6.toInt8.toInt32)) else none) else none) else none) else none
theorem gv_cv45 {post : St2 → Prop} {l7 l9 l8' : List Int32} (hp : post (f0, f1, f2, f3, f4, f5, f6, f7, a1, a2, a3, a4, a5, a6, gc_la l7, gc_la l8', gc_la l9, a10, a11, a12, a13, a14, a15, a16, a17)) :
    ∀ (n : Nat) (x2 x3 : Int32) (l8 : List Int32), gc_cv45 l7 l9 n x2 x3 l8 = some l8' → wX_colourVariables_45 post f0 f1 f2 f3 f4 f5 f6 f7 n x2 x3 a1 a2 a3 a4 a5 a6 (gc_la l7) (gc_la l8) (gc_la l9) a10 a11 a12 a13 a14 a15 a16 a17 := by
  intro n
  induction n with
  | zero => exact fun _ _ _ h => gc_no h
  | succ n ih =>
    intro x2 x3 l8 h
    exact gc_if h (fun _ h => gc_so (P := fun l => post (f0, f1, f2, f3, f4, f5, f6, f7, a1, a2, a3, a4, a5, a6, gc_la l7, gc_la l, gc_la l9, a10, a11, a12, a13, a14, a15, a16, a17)) h hp) (fun _ h => gc_g h (fun h => nm_e (gc_g h (fun h => gc_bd h (fun r6 h6 h => gv_freeColour h6
      (gc_g h (fun h => nm_r (gc_upd _ _ _) (gc_g h (fun h => gc_if h (fun _ h => nm_e (ih _ _ _ h)) (fun _ h => nm_e (nm_e (ih _ _ _ h))))))))))))
def gc_cv6 (l7 l8 : List Int32) : Nat → Int32 → Int32 → List Int32 → Option (List Int32 × List Int32)
  | 0, _, _, _ => none
  | n + 1, x1, x2, l9 => if 8 ≤ x2 then (gc_cv45 l7 l9 12 0 7 l8).bind (fun l => some (l, l9)) else (gc_easiest l7 x1).bind (fun r14 => if gc_in x2 8 = true then
      gc_cv6 l7 l8 n (x1 &&& (((1 : Int32) <<< (r14 &&& 31)) ^^^ (-1))) (x2 + 1) (gc_st l9 x2.toNatClampNeg r14.toInt8.toInt32) else none)
theorem gv_cv6 {post : St2 → Prop} {l7 l8 : List Int32} {q : List Int32 × List Int32} (hp : post (f0, f1, f2, f3, f4, f5, f6, f7, a1, a2, a3, a4, a5, a6, gc_la l7, gc_la q.1, gc_la q.2, a10, a11, a12, a13, a14, a15, a16, a17)) :
    ∀ (n : Nat) (x1 x2 : Int32) (l9 : List Int32), gc_cv6 l7 l8 n x1 x2 l9 = some q → wX_colourVariables_6 post f0 f1 f2 f3 f4 f5 f6 f7 n x1 x2 a1 a2 a3 a4 a5 a6 (gc_la l7) (gc_la l8) (gc_la l9) a10 a11 a12 a13 a14 a15 a16 a17 := by
  intro n
  induction n with
  | zero => exact fun _ _ _ h => gc_no h
  | succ n ih =>
    intro x1 x2 l9 h
    exact gc_if h (fun _ h => gc_bd h (fun l hl h => ⟨12, gv_cv45 (gc_so (P := fun w : List Int32 × List Int32 => post (f0, f1, f2, f3, f4, f5, f6, f7, a1, a2, a3, a4, a5, a6, gc_la l7, gc_la w.1, gc_la w.2, a10, a11, a12, a13, a14, a15, a16, a17)) h hp) 12 0 7 l8 hl⟩))
      (fun _ h => gc_bd h (fun r14 h14 h => gv_easiest h14 (gc_g h (fun h => nm_r (gc_upd _ _ _) (nm_e (nm_e (ih _ _ _ h)))))))
def gc_colour (l7 l8 l9 : List Int32) : Option (List Int32 × List Int32) := gc_cv6 l7 l8 12 255 0 l9
theorem gv_colour {post : St2 → Prop} {l7 l8 l9 : List Int32} {q : List Int32 × List Int32} (h : gc_colour l7 l8 l9 = some q) (hp : post (f0, f1, f2, f3, f4, f5, f6, f7, a1, a2, a3, a4, a5, a6, gc_la l7, gc_la q.1, gc_la q.2, a10, a11, a12, a13, a14, a15, a16, a17)) : wpX_colourVariables post (f0, f1, f2, f3, f4, f5, f6, f7, a1, a2, a3, a4, a5, a6, gc_la l7, gc_la l8, gc_la l9, a10, a11, a12, a13, a14, a15, a16, a17) :=
  ⟨12, gv_cv6 hp 12 255 0 l9 h⟩
end
end
section
/-- the code state: codeEnd, operation, target, left, right -/
abbrev gc_C : Type := Int32 × List Int32 × List Int32 × List Int32 × List Int32
section
variable {f0 f1 f2 f3 f4 f5 f6 f7 : Int32} {a1 a2 a3 a4 a5 a6 a7 a8 a9 a10 a11 a12 a13 a14 a15 a16 a17 : Nat → Int32}
def gc_write (c : gc_C) (p0 p1 p2 p3 : Int32) : Option gc_C :=
  if gc_in c.1 224 = true then some (c.1 + 1, gc_st c.2.1 c.1.toNatClampNeg p0.toInt8.toInt32, gc_st c.2.2.1 c.1.toNatClampNeg p1.toInt8.toInt32, gc_st c.2.2.2.1 c.1.toNatClampNeg p2, gc_st c.2.2.2.2 c.1.toNatClampNeg p3) else none
theorem gv_write {post : St2 → Prop} {c c' : gc_C} {p0 p1 p2 p3 : Int32} (h : gc_write c p0 p1 p2 p3 = some c') (hp : post (f0, f1, c'.1, f3, f4, f5, f6, f7, a1, a2, a3, a4, a5, a6, a7, a8, a9, gc_la c'.2.1, gc_la c'.2.2.1, gc_la c'.2.2.2.1, gc_la c'.2.2.2.2, a14, a15, a16, a17)) : wpX_write post (f0, f1, c.1, f3, f4, f5, f6, f7, a1, a2, a3, a4, a5, a6, a7, a8, a9, gc_la c.2.1, gc_la c.2.2.1, gc_la c.2.2.2.1, gc_la c.2.2.2.2, a14, a15, a16, a17) p0 p1 p2 p3 := by
  obtain ⟨g, e⟩ := gc_gs h
  rw [← Option.some.inj e] at hp
  exact ⟨g, nm_r (gc_upd _ _ _) ⟨g, nm_r (gc_upd _ _ _) ⟨g, nm_r (gc_upd _ _ _) ⟨g, nm_r (gc_upd _ _ _) (nm_e hp)⟩⟩⟩⟩
def gc_fetched (l8 : List Int32) (c : gc_C) (p0 p1 : Int32) : Option (Int32 × gc_C) :=
  if gc_in p0 8 = true then (if gc_la l8 p0.toNatClampNeg < 0 then (gc_write c 12 p1 p0 0).bind (fun c' => some (p1, c')) else if gc_in p0 8 = true then some (gc_la l8 p0.toNatClampNeg, c) else none) else none
theorem gv_fetched {post : Int32 → St2 → Prop} {l8 : List Int32} {c : gc_C} {q : Int32 × gc_C} {p0 p1 : Int32} (h : gc_fetched l8 c p0 p1 = some q) (hp : post q.1 (f0, f1, q.2.1, f3, f4, f5, f6, f7, a1, a2, a3, a4, a5, a6, a7, gc_la l8, a9, gc_la q.2.2.1, gc_la q.2.2.2.1, gc_la q.2.2.2.2.1, gc_la q.2.2.2.2.2, a14, a15, a16, a17)) : wpX_fetched post (f0, f1, c.1, f3, f4, f5, f6, f7, a1, a2, a3, a4, a5, a6, a7, gc_la l8, a9, gc_la c.2.1, gc_la c.2.2.1, gc_la c.2.2.2.1, gc_la c.2.2.2.2, a14, a15, a16, a17) p0 p1 :=
  gc_g h (fun h => gc_if h (fun _ h => gc_bd h (fun c' hc h => gv_write hc (gc_so (P := fun w : Int32 × gc_C => post w.1 (f0, f1, w.2.1, f3, f4, f5, f6, f7, a1, a2, a3, a4, a5, a6, a7, gc_la l8, a9, gc_la w.2.2.1, gc_la w.2.2.2.1, gc_la w.2.2.2.2.1, gc_la w.2.2.2.2.2, a14, a15, a16, a17)) h hp)))
    (fun _ h => gc_g h (fun h => gc_so (P := fun w : Int32 × gc_C => post w.1 (f0, f1, w.2.1, f3, f4, f5, f6, f7, a1, a2, a3, a4, a5, a6, a7, gc_la l8, a9, gc_la w.2.2.1, gc_la w.2.2.2.1, gc_la w.2.2.2.2.1, gc_la w.2.2.2.2.2, a14, a15, a16, a17)) h hp)))
def gc_ca131 (l8 : List Int32) (x3 x4 : Int32) (c : gc_C) : Option gc_C :=
  if gc_in x3 8 = true then (if 0 ≤ gc_la l8 x3.toNatClampNeg then some c else gc_write c 13 x4 x3 0) else none
theorem gv_ca131 {post : St2 → Prop} {l8 : List Int32} {c c' : gc_C} {x3 x4 : Int32} (hp : post (f0, f1, c'.1, f3, f4, f5, f6, f7, a1, a2, a3, a4, a5, a6, a7, gc_la l8, a9, gc_la c'.2.1, gc_la c'.2.2.1, gc_la c'.2.2.2.1, gc_la c'.2.2.2.2, a14, a15, a16, a17)) (h : gc_ca131 l8 x3 x4 c = some c') : wX_compileAssignment_131 post x3 x4 f0 f1 c.1 f3 f4 f5 f6 f7 a1 a2 a3 a4 a5 a6 a7 (gc_la l8) a9 (gc_la c.2.1) (gc_la c.2.2.1) (gc_la c.2.2.2.1) (gc_la c.2.2.2.2) a14 a15 a16 a17 :=
  gc_g h (fun h => gc_if h (fun _ h => gc_so (P := fun w : gc_C => post (f0, f1, w.1, f3, f4, f5, f6, f7, a1, a2, a3, a4, a5, a6, a7, gc_la l8, a9, gc_la w.2.1, gc_la w.2.2.1, gc_la w.2.2.2.1, gc_la w.2.2.2.2, a14, a15, a16, a17)) h hp) (fun _ h => gv_write h hp))
def gc_ca46 (l3 l4 l8 : List Int32) (x1 x2 x3 z0 : Int32) (c : gc_C) : Option gc_C :=
  if x2 = 0 then (if gc_in x1 32 = true then (gc_write c 0 z0 (gc_la l3 x1.toNatClampNeg) 0).bind (fun c => gc_ca131 l8 x3 z0 c) else none) else
    if gc_in x1 32 = true then (gc_fetched l8 c (gc_la l3 x1.toNatClampNeg) 3).bind (fun q => if x2 = 1 then (if q.1 = z0 then gc_ca131 l8 x3 z0 q.2 else (gc_write q.2 1 z0 q.1 0).bind (fun c => gc_ca131 l8 x3 z0 c)) else
      if gc_in x1 32 = true then (gc_fetched l8 q.2 (gc_la l4 x1.toNatClampNeg) 4).bind (fun w => (gc_write w.2 x2 z0 q.1 w.1).bind (fun c => gc_ca131 l8 x3 z0 c)) else none) else none
theorem gv_ca46 {post : St2 → Prop} {l3 l4 l8 : List Int32} {c c' : gc_C} {x1 x2 x3 z0 : Int32} (hp : post (f0, f1, c'.1, f3, f4, f5, f6, f7, a1, a2, gc_la l3, gc_la l4, a5, a6, a7, gc_la l8, a9, gc_la c'.2.1, gc_la c'.2.2.1, gc_la c'.2.2.2.1, gc_la c'.2.2.2.2, a14, a15, a16, a17)) (h : gc_ca46 l3 l4 l8 x1 x2 x3 z0 c = some c') : wX_compileAssignment_46 post x1 x2 x3 z0 f0 f1 c.1 f3 f4 f5 f6 f7 a1 a2 (gc_la l3) (gc_la l4) a5 a6 a7 (gc_la l8) a9 (gc_la c.2.1) (gc_la c.2.2.1) (gc_la c.2.2.2.1) (gc_la c.2.2.2.2) a14 a15 a16 a17 :=
  gc_if h (fun _ h => gc_g h (fun h => gc_bd h (fun c hc h => gv_write hc (gv_ca131 hp h))))
    (fun _ h => gc_g h (fun h => gc_bd h (fun q hq h => gv_fetched hq (gc_if h (fun _ h => gc_if h (fun _ h => gv_ca131 hp h) (fun _ h => gc_bd h (fun c hc h => gv_write hc (gv_ca131 hp h))))
      (fun _ h => gc_g h (fun h => gc_bd h (fun w hw h => gv_fetched hw (gc_bd h (fun c hc h => gv_write hc (gv_ca131 hp h))))))))))
def gc_compileAssignment (len : Int32) (l1 l2 l3 l4 l6 l8 : List Int32) (p : Int32) (c : gc_C) : Option gc_C :=
  if gc_in p 32 = true then (if gc_in p 32 = true then (gc_liveAfter len l1 l2 l3 l4 l6 p).bind (fun r5 => if ((r5 >>> ((gc_la l2 p.toNatClampNeg) &&& 31)) &&& 1) = 0 then some c else if gc_in (gc_la l2 p.toNatClampNeg) 8 = true then
    (if gc_la l8 (gc_la l2 p.toNatClampNeg).toNatClampNeg < 0 then gc_ca46 l3 l4 l8 p (gc_la l1 p.toNatClampNeg) (gc_la l2 p.toNatClampNeg) 5 c else
      if gc_in (gc_la l2 p.toNatClampNeg) 8 = true then gc_ca46 l3 l4 l8 p (gc_la l1 p.toNatClampNeg) (gc_la l2 p.toNatClampNeg) (gc_la l8 (gc_la l2 p.toNatClampNeg).toNatClampNeg) c else none) else none) else none) else none
theorem gv_compileAssignment {post : St2 → Prop} {l1 l2 l3 l4 l6 l8 : List Int32} {c c' : gc_C} {p : Int32} (h : gc_compileAssignment f0 l1 l2 l3 l4 l6 l8 p c = some c') (hp : post (f0, f1, c'.1, f3, f4, f5, f6, f7, gc_la l1, gc_la l2, gc_la l3, gc_la l4, a5, gc_la l6, a7, gc_la l8, a9, gc_la c'.2.1, gc_la c'.2.2.1, gc_la c'.2.2.2.1, gc_la c'.2.2.2.2, a14, a15, a16, a17)) : wpX_compileAssignment post (f0, f1, c.1, f3, f4, f5, f6, f7, gc_la l1, gc_la l2, gc_la l3, gc_la l4, a5, gc_la l6, a7, gc_la l8, a9, gc_la c.2.1, gc_la c.2.2.1, gc_la c.2.2.2.1, gc_la c.2.2.2.2, a14, a15, a16, a17) p :=
  gc_g h (fun h => nm_e (gc_g h (fun h => nm_e (gc_bd h (fun r5 h5 h => gv_liveAfter h5 (gc_if h (fun _ h => gc_so (P := fun w : gc_C => post (f0, f1, w.1, f3, f4, f5, f6, f7, gc_la l1, gc_la l2, gc_la l3, gc_la l4, a5, gc_la l6, a7, gc_la l8, a9, gc_la w.2.1, gc_la w.2.2.1, gc_la w.2.2.2.1, gc_la w.2.2.2.2, a14, a15, a16, a17)) h hp)
    (fun _ h => gc_g h (fun h => gc_if h (fun _ h => gv_ca46 hp h) (fun _ h => gc_g h (fun h => gv_ca46 hp h))))))))))
def gc_compileOne (len : Int32) (l1 l2 l3 l4 l6 l8 : List Int32) (p : Int32) (c : gc_C) : Option gc_C :=
  if gc_in p 32 = true then (if gc_in p 32 = true then (if 5 < gc_la l1 p.toNatClampNeg then
      (if gc_la l1 p.toNatClampNeg = 7 then gc_write c 7 0 (gc_la l2 p.toNatClampNeg) 0 else if gc_la l1 p.toNatClampNeg = 10 then gc_write c 10 0 0 0 else
        (gc_fetched l8 c (gc_la l2 p.toNatClampNeg) 3).bind (fun q => if gc_la l1 p.toNatClampNeg = 6 then gc_write q.2 6 q.1 0 0 else if gc_la l1 p.toNatClampNeg = 8 then
          (if gc_in p 32 = true then gc_write q.2 8 q.1 (gc_la l3 p.toNatClampNeg) 0 else none) else
          (if gc_in p 32 = true then (if gc_in p 32 = true then gc_write q.2 9 q.1 (gc_la l3 p.toNatClampNeg) (gc_la l4 p.toNatClampNeg) else none) else none)))
      else gc_compileAssignment len l1 l2 l3 l4 l6 l8 p c) else none) else none
theorem gv_compileOne {post : St2 → Prop} {l1 l2 l3 l4 l6 l8 : List Int32} {c c' : gc_C} {p : Int32} (h : gc_compileOne f0 l1 l2 l3 l4 l6 l8 p c = some c') (hp : post (f0, f1, c'.1, f3, f4, f5, f6, f7, gc_la l1, gc_la l2, gc_la l3, gc_la l4, a5, gc_la l6, a7, gc_la l8, a9, gc_la c'.2.1, gc_la c'.2.2.1, gc_la c'.2.2.2.1, gc_la c'.2.2.2.2, a14, a15, a16, a17)) : wpX_compileOne post (f0, f1, c.1, f3, f4, f5, f6, f7, gc_la l1, gc_la l2, gc_la l3, gc_la l4, a5, gc_la l6, a7, gc_la l8, a9, gc_la c.2.1, gc_la c.2.2.1, gc_la c.2.2.2.1, gc_la c.2.2.2.2, a14, a15, a16, a17) p :=
  gc_g h (fun h => nm_e (gc_g h (fun h => nm_e (gc_if h (fun _ h => gc_if h (fun _ h => gv_write h hp) (fun _ h => gc_if h (fun _ h => gv_write h hp)
    (fun _ h => gc_bd h (fun q hq h => gv_fetched hq (gc_if h (fun _ h => gv_write h hp) (fun _ h => gc_if h (fun _ h => gc_g h (fun h => gv_write h hp)) (fun _ h => gc_g h (fun h => gc_g h (fun h => gv_write h hp)))))))))
    (fun _ h => gv_compileAssignment h hp)))))
def gc_c76 (c : gc_C) : Nat → Int32 → List Int32 → Option (gc_C × List Int32)
  | 0, _, _ => none
  | n + 1, x1, l14 => if 36 ≤ x1 then (gc_write c 10 0 0 0).bind (fun c' => some (c', l14)) else if gc_in x1 36 = true then gc_c76 c n (x1 + 1) (gc_st l14 x1.toNatClampNeg c.1.toInt16.toInt32) else none
theorem gv_c76 {post : St2 → Prop} {c : gc_C} {q : gc_C × List Int32} (hp : post (f0, f1, q.1.1, f3, f4, f5, f6, f7, a1, a2, a3, a4, a5, a6, a7, a8, a9, gc_la q.1.2.1, gc_la q.1.2.2.1, gc_la q.1.2.2.2.1, gc_la q.1.2.2.2.2, gc_la q.2, a15, a16, a17)) :
    ∀ (n : Nat) (x1 : Int32) (l14 : List Int32), gc_c76 c n x1 l14 = some q → wX_compile_76 post f0 f1 c.1 f3 f4 f5 f6 f7 n x1 a1 a2 a3 a4 a5 a6 a7 a8 a9 (gc_la c.2.1) (gc_la c.2.2.1) (gc_la c.2.2.2.1) (gc_la c.2.2.2.2) (gc_la l14) a15 a16 a17 := by
  intro n
  induction n with
  | zero => exact fun _ _ h => gc_no h
  | succ n ih =>
    intro x1 l14 h
    exact gc_if h (fun _ h => gc_bd h (fun c' hc h => gv_write hc (gc_so (P := fun w : gc_C × List Int32 => post (f0, f1, w.1.1, f3, f4, f5, f6, f7, a1, a2, a3, a4, a5, a6, a7, a8, a9, gc_la w.1.2.1, gc_la w.1.2.2.1, gc_la w.1.2.2.2.1, gc_la w.1.2.2.2.2, gc_la w.2, a15, a16, a17)) h hp))) (fun _ h => gc_g h (fun h => nm_r (gc_upd _ _ _) (nm_e (ih _ _ h))))
def gc_c32 (len : Int32) (l1 l2 l3 l4 l6 l8 : List Int32) : Nat → Int32 → gc_C → List Int32 → Option (gc_C × List Int32)
  | 0, _, _, _ => none
  | n + 1, x1, c, l14 => if len ≤ x1 then gc_c76 c 40 len l14 else if gc_in x1 36 = true then (gc_write c 11 0 0 0).bind (fun c2 => (gc_compileOne len l1 l2 l3 l4 l6 l8 x1 c2).bind (fun c3 =>
      gc_c32 len l1 l2 l3 l4 l6 l8 n (x1 + 1) c3 (gc_st l14 x1.toNatClampNeg c.1.toInt16.toInt32))) else none
theorem gv_c32 {post : St2 → Prop} {l1 l2 l3 l4 l6 l8 : List Int32} {q : gc_C × List Int32} (hp : post (f0, f1, q.1.1, f3, f4, f5, f6, f7, gc_la l1, gc_la l2, gc_la l3, gc_la l4, a5, gc_la l6, a7, gc_la l8, a9, gc_la q.1.2.1, gc_la q.1.2.2.1, gc_la q.1.2.2.2.1, gc_la q.1.2.2.2.2, gc_la q.2, a15, a16, a17)) :
    ∀ (n : Nat) (x1 : Int32) (c : gc_C) (l14 : List Int32), gc_c32 f0 l1 l2 l3 l4 l6 l8 n x1 c l14 = some q → wX_compile_32 post n x1 f0 f1 c.1 f3 f4 f5 f6 f7 (gc_la l1) (gc_la l2) (gc_la l3) (gc_la l4) a5 (gc_la l6) a7 (gc_la l8) a9 (gc_la c.2.1) (gc_la c.2.2.1) (gc_la c.2.2.2.1) (gc_la c.2.2.2.2) (gc_la l14) a15 a16 a17 := by
  intro n
  induction n with
  | zero => exact fun _ _ _ h => gc_no h
  | succ n ih =>
    intro x1 c l14 h
    exact gc_if h (fun _ h => ⟨40, gv_c76 hp 40 _ _ h⟩) (fun _ h => gc_g h (fun h => nm_r (gc_upd _ _ _) (gc_bd h (fun c2 h2 h => gv_write h2 (gc_bd h (fun c3 h3 h => gv_compileOne h3 (nm_e (ih _ _ _ h))))))))
/-- what compile makes: liveIn, rivals, (colour, removed), (code, entry) -/
theorem gv_compile {post : St2 → Prop} {l1 l2 l3 l4 l6 l7 l8 l9 l6' l7' : List Int32} {c : gc_C} {l14 : List Int32} {w : List Int32 × List Int32} {q : gc_C × List Int32} (h0 : f1 = 0)
    (h1 : gc_findLiveness f0 l1 l2 l3 l4 l6 = some l6') (h2 : gc_findRivals f0 l1 l2 l3 l4 l6' l7 = some l7') (h3 : gc_colour l7' l8 l9 = some w) (h4 : gc_c32 f0 l1 l2 l3 l4 l6' w.1 40 0 (0, c.2) l14 = some q)
    (hp : post (f0, 1, q.1.1, f3, f4, f5, f6, f7, gc_la l1, gc_la l2, gc_la l3, gc_la l4, a5, gc_la l6', gc_la l7', gc_la w.1, gc_la w.2, gc_la q.1.2.1, gc_la q.1.2.2.1, gc_la q.1.2.2.2.1, gc_la q.1.2.2.2.2, gc_la q.2, a15, a16, a17)) : wpX_compile post (f0, f1, c.1, f3, f4, f5, f6, f7, gc_la l1, gc_la l2, gc_la l3, gc_la l4, a5, gc_la l6, gc_la l7, gc_la l8, gc_la l9, gc_la c.2.1, gc_la c.2.2.1, gc_la c.2.2.2.1, gc_la c.2.2.2.2, gc_la l14, a15, a16, a17) :=
  br_t h0 (gv_findLiveness h1 (gv_findRivals h2 (gv_colour h3 ⟨40, gv_c32 hp 40 0 (0, c.2) l14 h4⟩)))
theorem gv_compiled {post : St2 → Prop} (h0 : ¬ f1 = 0) (hp : post (f0, f1, f2, f3, f4, f5, f6, f7, a1, a2, a3, a4, a5, a6, a7, a8, a9, a10, a11, a12, a13, a14, a15, a16, a17)) : wpX_compile post (f0, f1, f2, f3, f4, f5, f6, f7, a1, a2, a3, a4, a5, a6, a7, a8, a9, a10, a11, a12, a13, a14, a15, a16, a17) := br_f h0 hp
end
end
section
def gc_is5 (x : Option gc_C) (y : gc_C) : Bool := match x with
  | some q => decide (q.1 = y.1) && (decide (q.2.1 = y.2.1) && (decide (q.2.2.1 = y.2.2.1) && (decide (q.2.2.2.1 = y.2.2.2.1) && decide (q.2.2.2.2 = y.2.2.2.2))))
  | none => false
theorem gc_is5_ok {x : Option gc_C} {y : gc_C} (h : gc_is5 x y = true) : x = some y := by
  cases x with
  | none => exact absurd (show false = true from h) (by decide)
  | some q =>
    have h' : (decide (q.1 = y.1) && (decide (q.2.1 = y.2.1) && (decide (q.2.2.1 = y.2.2.1) && (decide (q.2.2.2.1 = y.2.2.2.1) && decide (q.2.2.2.2 = y.2.2.2.2))))) = true := h
    simp only [Bool.and_eq_true, decide_eq_true_eq] at h'
    obtain ⟨h1, h2, h3, h4, h5⟩ := h'
    exact congrArg some (Prod.ext h1 (Prod.ext h2 (Prod.ext h3 (Prod.ext h4 h5))))
def gc_is6 (x : Option (gc_C × List Int32)) (y : gc_C × List Int32) : Bool := match x with
  | some q => gc_is5 (some q.1) y.1 && decide (q.2 = y.2)
  | none => false
theorem gc_is6_ok {x : Option (gc_C × List Int32)} {y : gc_C × List Int32} (h : gc_is6 x y = true) : x = some y := by
  cases x with
  | none => exact absurd (show false = true from h) (by decide)
  | some q =>
    have h' : (gc_is5 (some q.1) y.1 && decide (q.2 = y.2)) = true := h
    simp only [Bool.and_eq_true, decide_eq_true_eq] at h'
    exact congrArg some (Prod.ext (Option.some.inj (gc_is5_ok h'.1)) h'.2)
/-- the source state: length, opcode, fieldA, fieldB, fieldC -/
abbrev gc_S : Type := Int32 × List Int32 × List Int32 × List Int32 × List Int32
section
variable {f0 f1 f2 f3 f4 f5 f6 f7 : Int32} {a1 a2 a3 a4 a5 a6 a7 a8 a9 a10 a11 a12 a13 a14 a15 a16 a17 : Nat → Int32}
def gc_isV (p : Int32) : Option Int32 := if p < 0 then some 0 else if 7 < p then some 0 else some 1
theorem gv_isV {post : Int32 → Prop} {p r : Int32} (h : gc_isV p = some r) (hp : post r) : wpX_isVariable post (f0, f1, f2, f3, f4, f5, f6, f7, a1, a2, a3, a4, a5, a6, a7, a8, a9, a10, a11, a12, a13, a14, a15, a16, a17) p :=
  gc_if h (fun _ h => gc_so h hp) (fun _ h => gc_if h (fun _ h => gc_so h hp) (fun _ h => gc_so h hp))
def gc_isT (p : Int32) : Option Int32 := if p < 0 then some 0 else if 31 < p then some 0 else some 1
theorem gv_isT {post : Int32 → Prop} {p r : Int32} (h : gc_isT p = some r) (hp : post r) : wpX_isTarget post (f0, f1, f2, f3, f4, f5, f6, f7, a1, a2, a3, a4, a5, a6, a7, a8, a9, a10, a11, a12, a13, a14, a15, a16, a17) p :=
  gc_if h (fun _ h => gc_so h hp) (fun _ h => gc_if h (fun _ h => gc_so h hp) (fun _ h => gc_so h hp))
theorem gv_start {post : Int32 → St2 → Prop} {l5 : List Int32} {p x : Int32} (l5' : List Int32) (h1 : gc_isV p = some 1) (h2 : gc_in p 8 = true) (h3 : gc_st l5 p.toNatClampNeg x = l5') (hp : post 1 (f0, f1, f2, f3, f4, f5, f6, f7, a1, a2, a3, a4, gc_la l5', a6, a7, a8, a9, a10, a11, a12, a13, a14, a15, a16, a17)) : wpX_start post (f0, f1, f2, f3, f4, f5, f6, f7, a1, a2, a3, a4, gc_la l5, a6, a7, a8, a9, a10, a11, a12, a13, a14, a15, a16, a17) p x := by
  subst h3
  unfold wpX_start
  exact gv_isV h1 (br_f (by decide) ⟨gc_in_ok h2, nm_r (gc_upd _ _ _) hp⟩)
def gc_f87 (x1 x4 : Int32) : Option Int32 := if x1 = 9 then (if x4 < 1 then some 0 else if 4 < x4 then some 0 else some 1) else some 1
theorem gv_f87 {post : Int32 → Prop} {x1 x4 r : Int32} (hp : post r) (h : gc_f87 x1 x4 = some r) : wX_fits_87 post x1 x4 f0 f1 f2 f3 f4 f5 f6 f7 a1 a2 a3 a4 a5 a6 a7 a8 a9 a10 a11 a12 a13 a14 a15 a16 a17 :=
  gc_if h (fun _ h => gc_if h (fun _ h => gc_so h hp) (fun _ h => gc_if h (fun _ h => gc_so h hp) (fun _ h => gc_so h hp))) (fun _ h => gc_so h hp)
def gc_f71 (x1 x3 x4 : Int32) : Option Int32 := if x1 < 8 then gc_f87 x1 x4 else (gc_isT x3).bind (fun r => if r = 0 then some 0 else gc_f87 x1 x4)
theorem gv_f71 {post : Int32 → Prop} {x1 x3 x4 r : Int32} (hp : post r) (h : gc_f71 x1 x3 x4 = some r) : wX_fits_71 post x1 x3 x4 f0 f1 f2 f3 f4 f5 f6 f7 a1 a2 a3 a4 a5 a6 a7 a8 a9 a10 a11 a12 a13 a14 a15 a16 a17 :=
  gc_if h (fun _ h => gv_f87 hp h) (fun _ h => gc_bd h (fun r hr h => gv_isT hr (gc_if h (fun _ h => gc_so h hp) (fun _ h => gv_f87 hp h))))
def gc_f50 (x1 x3 x4 : Int32) : Option Int32 := if x1 < 2 then gc_f71 x1 x3 x4 else if 5 < x1 then gc_f71 x1 x3 x4 else (gc_isV x4).bind (fun r => if r = 0 then some 0 else gc_f71 x1 x3 x4)
theorem gv_f50 {post : Int32 → Prop} {x1 x3 x4 r : Int32} (hp : post r) (h : gc_f50 x1 x3 x4 = some r) : wX_fits_50 post x1 x3 x4 f0 f1 f2 f3 f4 f5 f6 f7 a1 a2 a3 a4 a5 a6 a7 a8 a9 a10 a11 a12 a13 a14 a15 a16 a17 :=
  gc_if h (fun _ h => gv_f71 hp h) (fun _ h => gc_if h (fun _ h => gv_f71 hp h) (fun _ h => gc_bd h (fun r hr h => gv_isV hr (gc_if h (fun _ h => gc_so h hp) (fun _ h => gv_f71 hp h)))))
/-- no GOTO among the law's instructions -/
def gc_fits (p0 p1 p2 p3 : Int32) : Option Int32 := if p0 = 10 then some 1 else if p0 = 7 then none else (gc_isV p1).bind (fun r => if r = 0 then some 0 else if p0 < 1 then gc_f50 p0 p2 p3 else if 5 < p0 then gc_f50 p0 p2 p3 else (gc_isV p2).bind (fun r => if r = 0 then some 0 else gc_f50 p0 p2 p3))
theorem gv_fits {post : Int32 → Prop} {p0 p1 p2 p3 r : Int32} (h : gc_fits p0 p1 p2 p3 = some r) (hp : post r) : wpX_fits post (f0, f1, f2, f3, f4, f5, f6, f7, a1, a2, a3, a4, a5, a6, a7, a8, a9, a10, a11, a12, a13, a14, a15, a16, a17) p0 p1 p2 p3 :=
  gc_if h (fun _ h => gc_so h hp) (fun _ h => gc_if h (fun _ h => gc_no h) (fun _ h => gc_bd h (fun r hr h => gv_isV hr (gc_if h (fun _ h => gc_so h hp) (fun _ h => gc_if h (fun _ h => gv_f50 hp h)
    (fun _ h => gc_if h (fun _ h => gv_f50 hp h) (fun _ h => gc_bd h (fun r hr h => gv_isV hr (gc_if h (fun _ h => gc_so h hp) (fun _ h => gv_f50 hp h))))))))))
def gc_emit (s : gc_S) (p0 p1 p2 p3 : Int32) : Option gc_S :=
  if s.1 < 32 then (if p0 < 0 then none else if 10 < p0 then none else (gc_fits p0 p1 p2 p3).bind (fun r => if r = 0 then none else if gc_in s.1 32 = true then
    some (s.1 + 1, gc_st s.2.1 s.1.toNatClampNeg p0.toInt8.toInt32, gc_st s.2.2.1 s.1.toNatClampNeg p1.toInt8.toInt32, gc_st s.2.2.2.1 s.1.toNatClampNeg p2, gc_st s.2.2.2.2 s.1.toNatClampNeg p3.toInt8.toInt32) else none)) else none
theorem gv_emit {post : Int32 → St2 → Prop} {s s' : gc_S} {p0 p1 p2 p3 : Int32} (h : gc_emit s p0 p1 p2 p3 = some s')
    (hp : post s'.1 (s'.1, 0, f2, f3, f4, f5, f6, f7, gc_la s'.2.1, gc_la s'.2.2.1, gc_la s'.2.2.2.1, gc_la s'.2.2.2.2, a5, a6, a7, a8, a9, a10, a11, a12, a13, a14, a15, a16, a17)) : wpX_emit post (s.1, f1, f2, f3, f4, f5, f6, f7, gc_la s.2.1, gc_la s.2.2.1, gc_la s.2.2.2.1, gc_la s.2.2.2.2, a5, a6, a7, a8, a9, a10, a11, a12, a13, a14, a15, a16, a17) p0 p1 p2 p3 := by
  refine gc_if h (fun _ h => gc_if h (fun _ h => gc_no h) (fun _ h => gc_if h (fun _ h => gc_no h) (fun _ h => gc_bd h (fun r hr h => gv_fits hr (gc_if h (fun _ h => gc_no h) (fun _ h => ?_)))))) (fun _ h => gc_no h)
  obtain ⟨g, e⟩ := gc_gs h
  rw [← Option.some.inj e] at hp
  exact ⟨g, nm_r (gc_upd _ _ _) ⟨g, nm_r (gc_upd _ _ _) ⟨g, nm_r (gc_upd _ _ _) ⟨g, nm_r (gc_upd _ _ _) (nm_e hp)⟩⟩⟩⟩
end
def gc_L1 : List Int32 := [6, 2, 3, 8, 9, 6, 10, 6, 6]
def gc_L2 : List Int32 := [1, 1, 0, 0, 4, 4, 0, 2, 3]
def gc_L3 : List Int32 := [0, 1, 0, 0, 7, 0, 0, 0, 0]
def gc_L4 : List Int32 := [0, 2, 3, 0, 2, 0, 0, 0, 0]
def gc_L6 : List Int32 := [31, 31, 31, 31, 28, 16, 0, 12, 8, 0, 0, 0, 0, 0, 0, 0, 0, 0, 0, 0, 0, 0, 0, 0, 0, 0, 0, 0, 0, 0, 0, 0]
def gc_L7 : List Int32 := [30, 29, 27, 23, 15, 0, 0, 0]
def gc_L8 : List Int32 := [-1, -1, 2, 1, 0, 0, 0, 0]
def gc_L9 : List Int32 := [5, 6, 7, 0, 1, 2, 3, 4]
def gc_L10 : List Int32 := [11, 12, 6, 11, 12, 2, 13, 11, 12, 3, 13, 11, 12, 8, 11, 9, 11, 6, 11, 10, 11, 6, 11, 6, 10]
def gc_L11 : List Int32 := [0, 3, 3, 0, 3, 5, 5, 0, 3, 5, 5, 0, 3, 3, 0, 0, 0, 0, 0, 0, 0, 2, 0, 1, 0]
def gc_L12 : List Int32 := [0, 1, 0, 0, 1, 3, 1, 0, 0, 3, 0, 0, 0, 0, 0, 7, 0, 0, 0, 0, 0, 0, 0, 0, 0]
def gc_L13 : List Int32 := [0, 0, 0, 0, 0, 2, 0, 0, 0, 1, 0, 0, 0, 0, 0, 2, 0, 0, 0, 0, 0, 0, 0, 0, 0]
def gc_L14 : List Int32 := [0, 3, 7, 11, 14, 16, 18, 20, 22, 24, 24, 24, 24, 24, 24, 24, 24, 24, 24, 24, 24, 24, 24, 24, 24, 24, 24, 24, 24, 24, 24, 24, 24, 24, 24, 24]
theorem gk_live : gc_findLiveness 9 gc_L1 gc_L2 gc_L3 gc_L4 [] = some gc_L6 := by decide +kernel
theorem gk_rivals : gc_findRivals 9 gc_L1 gc_L2 gc_L3 gc_L4 gc_L6 [] = some gc_L7 := by decide +kernel
theorem gk_colour : gc_colour gc_L7 [] [] = some (gc_L8, gc_L9) := by decide +kernel
theorem gk_code : gc_c32 9 gc_L1 gc_L2 gc_L3 gc_L4 gc_L6 gc_L8 40 0 (0, [], [], [], []) [] = some ((25, gc_L10, gc_L11, gc_L12, gc_L13), gc_L14) := gc_is6_ok (by decide +kernel)
section
variable {f0 f1 f2 f3 f4 f5 f6 f7 : Int32} {a1 a2 a3 a4 a5 a6 a7 a8 a9 a10 a11 a12 a13 a14 a15 a16 a17 : Nat → Int32}
theorem gk_compile {post : St2 → Prop} (hp : post (9, 1, 25, f3, f4, f5, f6, f7, gc_la gc_L1, gc_la gc_L2, gc_la gc_L3, gc_la gc_L4, a5, gc_la gc_L6, gc_la gc_L7, gc_la gc_L8, gc_la gc_L9, gc_la gc_L10, gc_la gc_L11, gc_la gc_L12, gc_la gc_L13, gc_la gc_L14, a15, a16, a17)) : wpX_compile post (9, 0, 0, f3, f4, f5, f6, f7, gc_la gc_L1, gc_la gc_L2, gc_la gc_L3, gc_la gc_L4, a5, gc_la [], gc_la [], gc_la [], gc_la [], gc_la [], gc_la [], gc_la [], gc_la [], gc_la [], a15, a16, a17) :=
  gv_compile (c := (0, [], [], [], [])) rfl gk_live gk_rivals gk_colour gk_code hp
end
end
section
section
variable {f0 f1 f2 f3 f4 f5 f6 f7 : Int32} {a1 a2 a3 a4 a5 a6 a7 a8 a9 a10 a11 a12 a13 a14 a15 a16 a17 : Nat → Int32}
theorem ge_tick {post : St2 → Prop} {p fu : Nat} {ex : Int32} (hp : p < 224) (hf : fu < 2 ^ 31) (h10 : a10 p = 11)
    (H0 : fu = 0 → post (f0, f1, f2, nI (p + 1), nI 0, 2, ex, f7, a1, a2, a3, a4, a5, a6, a7, a8, a9, a10, a11, a12, a13, a14, a15, a16, a17)) (H1 : ∀ g, fu = g + 1 → post (f0, f1, f2, nI (p + 1), nI g, f5, ex + 1, f7, a1, a2, a3, a4, a5, a6, a7, a8, a9, a10, a11, a12, a13, a14, a15, a16, a17)) : wpX_execute post (f0, f1, f2, nI p, nI fu, f5, ex, f7, a1, a2, a3, a4, a5, a6, a7, a8, a9, a10, a11, a12, a13, a14, a15, a16, a17) := by
  have hc : (nI p).toNatClampNeg = p := nI_clamp (by omega)
  have h10' : a10 (nI p).toNatClampNeg = 11 := by rw [hc]; exact h10
  have hi : vp_in (nI p) 224 := vp_in_nI hp (by omega)
  refine ⟨hi, nm_r h10' ⟨hi, nm_e ⟨hi, nm_e (nm_r (nI_1 p) (br_t rfl ?_))⟩⟩⟩
  cases fu with
  | zero => exact br_t rfl (H0 rfl)
  | succ g => exact br_f (nI_ne0 (by omega) hf) (nm_r (nI_pred g) (nm_e (H1 g rfl)))
theorem ge_fetch {post : St2 → Prop} {l15 l16 : List Int32} {p r y : Nat} (hp : p < 224) (h10 : a10 p = 12) (h11 : a11 p = nI r) (h12 : a12 p = nI y) (hr : r < 6) (hy : y < 8)
    (H : post (f0, f1, f2, nI (p + 1), f4, f5, f6, f7, a1, a2, a3, a4, a5, a6, a7, a8, a9, a10, a11, a12, a13, a14, gc_la (gc_st l15 r (gc_la l16 y)), gc_la l16, a17)) : wpX_execute post (f0, f1, f2, nI p, f4, f5, f6, f7, a1, a2, a3, a4, a5, a6, a7, a8, a9, a10, a11, a12, a13, a14, gc_la l15, gc_la l16, a17) := by
  have hc : (nI p).toNatClampNeg = p := nI_clamp (by omega)
  have h10' : a10 (nI p).toNatClampNeg = 12 := by rw [hc]; exact h10
  have h11' : a11 (nI p).toNatClampNeg = nI r := by rw [hc]; exact h11
  have h12' : a12 (nI p).toNatClampNeg = nI y := by rw [hc]; exact h12
  have hi : vp_in (nI p) 224 := vp_in_nI hp (by omega)
  refine ⟨hi, nm_r h10' ⟨hi, nm_r h11' ⟨hi, nm_r h12' (nm_r (nI_1 p) ?_)⟩⟩⟩
  refine br_f (by decide) (br_f (by decide) (br_f (by decide) (br_t (by decide) (br_t rfl ⟨vp_in_nI hy (by omega), vp_in_nI hr (by omega), nm_r ?_ H⟩))))
  rw [nI_clamp (show r < 2 ^ 31 by omega), nI_clamp (show y < 2 ^ 31 by omega)]
  exact gc_upd _ _ _
theorem ge_keep {post : St2 → Prop} {l15 l16 : List Int32} {p r y : Nat} (hp : p < 224) (h10 : a10 p = 13) (h11 : a11 p = nI r) (h12 : a12 p = nI y) (hr : r < 6) (hy : y < 8)
    (H : post (f0, f1, f2, nI (p + 1), f4, f5, f6, f7, a1, a2, a3, a4, a5, a6, a7, a8, a9, a10, a11, a12, a13, a14, gc_la l15, gc_la (gc_st l16 y (gc_la l15 r)), a17)) : wpX_execute post (f0, f1, f2, nI p, f4, f5, f6, f7, a1, a2, a3, a4, a5, a6, a7, a8, a9, a10, a11, a12, a13, a14, gc_la l15, gc_la l16, a17) := by
  have hc : (nI p).toNatClampNeg = p := nI_clamp (by omega)
  have h10' : a10 (nI p).toNatClampNeg = 13 := by rw [hc]; exact h10
  have h11' : a11 (nI p).toNatClampNeg = nI r := by rw [hc]; exact h11
  have h12' : a12 (nI p).toNatClampNeg = nI y := by rw [hc]; exact h12
  have hi : vp_in (nI p) 224 := vp_in_nI hp (by omega)
  refine ⟨hi, nm_r h10' ⟨hi, nm_r h11' ⟨hi, nm_r h12' (nm_r (nI_1 p) ?_)⟩⟩⟩
  refine br_f (by decide) (br_f (by decide) (br_f (by decide) (br_t (by decide) (br_f (by decide) (br_t rfl ⟨vp_in_nI hr (by omega), vp_in_nI hy (by omega), nm_r ?_ H⟩)))))
  rw [nI_clamp (show r < 2 ^ 31 by omega), nI_clamp (show y < 2 ^ 31 by omega)]
  exact gc_upd _ _ _
theorem ge_write {post : St2 → Prop} {l15 : List Int32} {p r pr : Nat} (hp : p < 224) (h10 : a10 p = 6) (h11 : a11 p = nI r) (hr : r < 6) (hq : pr < 32)
    (H : post (f0, f1, f2, nI (p + 1), f4, f5, f6, nI (pr + 1), a1, a2, a3, a4, a5, a6, a7, a8, a9, a10, a11, a12, a13, a14, gc_la l15, a16, upd a17 pr (gc_la l15 r))) : wpX_execute post (f0, f1, f2, nI p, f4, f5, f6, nI pr, a1, a2, a3, a4, a5, a6, a7, a8, a9, a10, a11, a12, a13, a14, gc_la l15, a16, a17) := by
  have hc : (nI p).toNatClampNeg = p := nI_clamp (by omega)
  have h10' : a10 (nI p).toNatClampNeg = 6 := by rw [hc]; exact h10
  have h11' : a11 (nI p).toNatClampNeg = nI r := by rw [hc]; exact h11
  have hi : vp_in (nI p) 224 := vp_in_nI hp (by omega)
  refine ⟨hi, nm_r h10' ⟨hi, nm_r h11' ⟨hi, nm_e (nm_r (nI_1 p) ?_)⟩⟩⟩
  refine br_f (by decide) (br_f (by decide) (br_f (by decide) (br_t (by decide) (br_f (by decide) (br_f (by decide) (br_t rfl ⟨vp_in_nI hr (by omega), ?_⟩))))))
  refine br_f (nI_ge (b := 32) hq (by decide)) ⟨vp_in_nI hq (by omega), nm_r ?_ (nm_r (nI_1 pr) H)⟩
  rw [nI_clamp (show r < 2 ^ 31 by omega), nI_clamp (show pr < 2 ^ 31 by omega)]
theorem ge_add {post : St2 → Prop} {l15 : List Int32} {p r y z : Nat} (hp : p < 224) (h10 : a10 p = 2) (h11 : a11 p = nI r) (h12 : a12 p = nI y) (h13 : a13 p = nI z) (hr : r < 6) (hy : y < 6) (hz : z < 6)
    (H : post (f0, f1, f2, nI (p + 1), f4, f5, f6, f7, a1, a2, a3, a4, a5, a6, a7, a8, a9, a10, a11, a12, a13, a14, gc_la (gc_st l15 r (gc_la l15 y + gc_la l15 z)), a16, a17)) : wpX_execute post (f0, f1, f2, nI p, f4, f5, f6, f7, a1, a2, a3, a4, a5, a6, a7, a8, a9, a10, a11, a12, a13, a14, gc_la l15, a16, a17) := by
  have hc : (nI p).toNatClampNeg = p := nI_clamp (by omega)
  have h10' : a10 (nI p).toNatClampNeg = 2 := by rw [hc]; exact h10
  have h11' : a11 (nI p).toNatClampNeg = nI r := by rw [hc]; exact h11
  have h12' : a12 (nI p).toNatClampNeg = nI y := by rw [hc]; exact h12
  have hi : vp_in (nI p) 224 := vp_in_nI hp (by omega)
  have h13' : a13 (nI p).toNatClampNeg = nI z := by rw [hc]; exact h13
  refine ⟨hi, nm_r h10' ⟨hi, nm_r h11' ⟨hi, nm_r h12' (nm_r (nI_1 p) ?_)⟩⟩⟩
  refine br_f (by decide) (br_f (by decide) (br_f (by decide) (br_f (by decide) ⟨vp_in_nI hy (by omega), hi, by rw [h13']; exact vp_in_nI hz (by omega), br_t rfl ⟨vp_in_nI hr (by omega), nm_r ?_ H⟩⟩)))
  rw [h13', nI_clamp (show r < 2 ^ 31 by omega), nI_clamp (show y < 2 ^ 31 by omega), nI_clamp (show z < 2 ^ 31 by omega)]
  exact gc_upd _ _ _
theorem ge_sub {post : St2 → Prop} {l15 : List Int32} {p r y z : Nat} (hp : p < 224) (h10 : a10 p = 3) (h11 : a11 p = nI r) (h12 : a12 p = nI y) (h13 : a13 p = nI z) (hr : r < 6) (hy : y < 6) (hz : z < 6)
    (H : post (f0, f1, f2, nI (p + 1), f4, f5, f6, f7, a1, a2, a3, a4, a5, a6, a7, a8, a9, a10, a11, a12, a13, a14, gc_la (gc_st l15 r (gc_la l15 y - gc_la l15 z)), a16, a17)) : wpX_execute post (f0, f1, f2, nI p, f4, f5, f6, f7, a1, a2, a3, a4, a5, a6, a7, a8, a9, a10, a11, a12, a13, a14, gc_la l15, a16, a17) := by
  have hc : (nI p).toNatClampNeg = p := nI_clamp (by omega)
  have h10' : a10 (nI p).toNatClampNeg = 3 := by rw [hc]; exact h10
  have h11' : a11 (nI p).toNatClampNeg = nI r := by rw [hc]; exact h11
  have h12' : a12 (nI p).toNatClampNeg = nI y := by rw [hc]; exact h12
  have hi : vp_in (nI p) 224 := vp_in_nI hp (by omega)
  have h13' : a13 (nI p).toNatClampNeg = nI z := by rw [hc]; exact h13
  refine ⟨hi, nm_r h10' ⟨hi, nm_r h11' ⟨hi, nm_r h12' (nm_r (nI_1 p) ?_)⟩⟩⟩
  refine br_f (by decide) (br_f (by decide) (br_f (by decide) (br_f (by decide) ⟨vp_in_nI hy (by omega), hi, by rw [h13']; exact vp_in_nI hz (by omega), br_f (by decide) (br_t rfl ⟨vp_in_nI hr (by omega), nm_r ?_ H⟩)⟩)))
  rw [h13', nI_clamp (show r < 2 ^ 31 by omega), nI_clamp (show y < 2 ^ 31 by omega), nI_clamp (show z < 2 ^ 31 by omega)]
  exact gc_upd _ _ _
theorem ge_halt {post : St2 → Prop} {p : Nat} (hp : p < 224) (h10 : a10 p = 10) (H : post (f0, f1, f2, nI (p + 1), f4, 1, f6, f7, a1, a2, a3, a4, a5, a6, a7, a8, a9, a10, a11, a12, a13, a14, a15, a16, a17)) : wpX_execute post (f0, f1, f2, nI p, f4, f5, f6, f7, a1, a2, a3, a4, a5, a6, a7, a8, a9, a10, a11, a12, a13, a14, a15, a16, a17) := by
  have hc : (nI p).toNatClampNeg = p := nI_clamp (by omega)
  have h10' : a10 (nI p).toNatClampNeg = 10 := by rw [hc]; exact h10
  have hi : vp_in (nI p) 224 := vp_in_nI hp (by omega)
  refine ⟨hi, nm_r h10' ⟨hi, nm_e ⟨hi, nm_e (nm_r (nI_1 p) ?_)⟩⟩⟩
  exact br_f (by decide) (br_f (by decide) (br_f (by decide) (br_t (by decide) (br_f (by decide) (br_f (by decide) (br_f (by decide) (br_t rfl H)))))))
/-- JUMP_IF: to entry[y] = e if the register isn't 0 -/
theorem ge_jif {post : St2 → Prop} {l15 : List Int32} {p r y e : Nat} (hp : p < 224) (h10 : a10 p = 8) (h11 : a11 p = nI r) (h12 : a12 p = nI y) (hr : r < 6) (hy : y < 36) (h14 : a14 y = nI e)
    (H0 : gc_la l15 r = 0 → post (f0, f1, f2, nI (p + 1), f4, f5, f6, f7, a1, a2, a3, a4, a5, a6, a7, a8, a9, a10, a11, a12, a13, a14, gc_la l15, a16, a17)) (H1 : ¬ gc_la l15 r = 0 → post (f0, f1, f2, nI e, f4, f5, f6, f7, a1, a2, a3, a4, a5, a6, a7, a8, a9, a10, a11, a12, a13, a14, gc_la l15, a16, a17)) : wpX_execute post (f0, f1, f2, nI p, f4, f5, f6, f7, a1, a2, a3, a4, a5, a6, a7, a8, a9, a10, a11, a12, a13, a14, gc_la l15, a16, a17) := by
  have hc : (nI p).toNatClampNeg = p := nI_clamp (by omega)
  have hr' : (nI r).toNatClampNeg = r := nI_clamp (by omega)
  have h10' : a10 (nI p).toNatClampNeg = 8 := by rw [hc]; exact h10
  have h11' : a11 (nI p).toNatClampNeg = nI r := by rw [hc]; exact h11
  have h12' : a12 (nI p).toNatClampNeg = nI y := by rw [hc]; exact h12
  have hi : vp_in (nI p) 224 := vp_in_nI hp (by omega)
  refine ⟨hi, nm_r h10' ⟨hi, nm_r h11' ⟨hi, nm_r h12' (nm_r (nI_1 p) ?_)⟩⟩⟩
  refine br_f (by decide) (br_f (by decide) (br_f (by decide) (br_t (by decide) (br_f (by decide) (br_f (by decide) (br_f (by decide) (br_f (by decide) ⟨vp_in_nI hr (by omega), hi, ?_⟩)))))))
  rw [hr']
  refine br_f (by decide) (br_t rfl (br_c (fun z => br_f (by decide) (H0 z)) (fun z => ⟨vp_in_nI hy (by omega), nm_r ?_ (br_f (by decide) (H1 z))⟩)))
  rw [nI_clamp (show y < 2 ^ 31 by omega)]
  exact h14
/-- TABLE with two rows -/
theorem ge_table {post : St2 → Prop} {l15 : List Int32} {p r y e0 e1 : Nat} (hp : p < 224) (h10 : a10 p = 9) (h11 : a11 p = nI r) (h12 : a12 p = nI y) (h13 : a13 p = 2) (hr : r < 6) (hy : y < 30) (h14 : a14 y = nI e0) (h15 : a14 (y + 1) = nI e1)
    (H0 : gc_la l15 r = 0 → post (f0, f1, f2, nI e0, f4, f5, f6, f7, a1, a2, a3, a4, a5, a6, a7, a8, a9, a10, a11, a12, a13, a14, gc_la l15, a16, a17)) (H1 : gc_la l15 r = 1 → post (f0, f1, f2, nI e1, f4, f5, f6, f7, a1, a2, a3, a4, a5, a6, a7, a8, a9, a10, a11, a12, a13, a14, gc_la l15, a16, a17)) (H2 : ¬ gc_la l15 r = 0 → ¬ gc_la l15 r = 1 → post (f0, f1, f2, nI (p + 1), f4, f5, f6, f7, a1, a2, a3, a4, a5, a6, a7, a8, a9, a10, a11, a12, a13, a14, gc_la l15, a16, a17)) : wpX_execute post (f0, f1, f2, nI p, f4, f5, f6, f7, a1, a2, a3, a4, a5, a6, a7, a8, a9, a10, a11, a12, a13, a14, gc_la l15, a16, a17) := by
  have hc : (nI p).toNatClampNeg = p := nI_clamp (by omega)
  have hr' : (nI r).toNatClampNeg = r := nI_clamp (by omega)
  have h10' : a10 (nI p).toNatClampNeg = 9 := by rw [hc]; exact h10
  have h11' : a11 (nI p).toNatClampNeg = nI r := by rw [hc]; exact h11
  have h12' : a12 (nI p).toNatClampNeg = nI y := by rw [hc]; exact h12
  have hi : vp_in (nI p) 224 := vp_in_nI hp (by omega)
  have h13' : a13 (nI p).toNatClampNeg = 2 := by rw [hc]; exact h13
  refine ⟨hi, nm_r h10' ⟨hi, nm_r h11' ⟨hi, nm_r h12' (nm_r (nI_1 p) ?_)⟩⟩⟩
  refine br_f (by decide) (br_f (by decide) (br_f (by decide) (br_t (by decide) (br_f (by decide) (br_f (by decide) (br_f (by decide) (br_f (by decide) ⟨vp_in_nI hr (by omega), hi, ?_⟩)))))))
  rw [hr', h13']
  refine br_f (by decide) (br_f (by decide) (br_t rfl (br_c (fun z => H2 ?_ ?_) (fun z => br_c (fun z2 => H2 ?_ ?_) (fun z2 => ?_)))))
  · intro q
    rw [q] at z
    exact absurd z (by decide)
  · intro q
    rw [q] at z
    exact absurd z (by decide)
  · intro q
    rw [q] at z2
    exact absurd z2 (by decide)
  · intro q
    rw [q] at z2
    exact absurd z2 (by decide)
  · obtain ⟨j, hj, ej⟩ := nI_of z
    rw [ej] at z2 H0 H1 ⊢
    have hj2 : j < 2 := by
      rcases Nat.lt_or_ge j 2 with q | q
      · exact q
      · exact absurd (show (2 : Int32) ≤ nI j from nI_le (a := 2) q hj) z2
    have e : nI y + nI j = nI (y + j) := nI_add y j
    rw [e]
    refine ⟨vp_in_nI (show y + j < 36 by omega) (by omega), ?_⟩
    rw [nI_clamp (show y + j < 2 ^ 31 by omega)]
    rcases (show j = 0 ∨ j = 1 by omega) with q | q
    · subst q
      exact nm_r h14 (H0 rfl)
    · subst q
      exact nm_r h15 (H1 rfl)
end
end
section
/-- the run's loop over the law's compiled program -/
def gz_R (post : Int32 → St2 → Prop) (a5 : Nat → Int32) (n s pl fu oc ex pr : Nat) (l15 l16 : List Int32) (a17 : Nat → Int32) : Prop :=
  wX_run_119 post n (nI s) 9 1 25 (nI pl) (nI fu) (nI oc) (nI ex) (nI pr) (gc_la gc_L1) (gc_la gc_L2) (gc_la gc_L3) (gc_la gc_L4) a5 (gc_la gc_L6) (gc_la gc_L7) (gc_la gc_L8) (gc_la gc_L9) (gc_la gc_L10) (gc_la gc_L11) (gc_la gc_L12) (gc_la gc_L13) (gc_la gc_L14) (gc_la l15) (gc_la l16) a17
def gz_P (post : Int32 → St2 → Prop) (a5 : Nat → Int32) (pl fu oc ex pr : Nat) (l15 l16 : List Int32) (a17 : Nat → Int32) : Prop :=
  post (nI oc) (9, 1, 25, nI pl, nI fu, nI oc, nI ex, nI pr, gc_la gc_L1, gc_la gc_L2, gc_la gc_L3, gc_la gc_L4, a5, gc_la gc_L6, gc_la gc_L7, gc_la gc_L8, gc_la gc_L9, gc_la gc_L10, gc_la gc_L11, gc_la gc_L12, gc_la gc_L13, gc_la gc_L14, gc_la l15, gc_la l16, a17)
section
variable {post : Int32 → St2 → Prop} {a5 a17 : Nat → Int32} {n s p fu ex pr : Nat} {l15 l16 : List Int32}
theorem gz_end {oc : Nat} (ho : 0 < oc) (ho2 : oc < 3) (H : gz_P post a5 p fu oc ex pr l15 l16 a17) : gz_R post a5 (n + 1) s p fu oc ex pr l15 l16 a17 :=
  br_c (fun _ => H) (fun _ => br_f (nI_ne0 ho (by omega)) H)
theorem gz_tick (hs : s < 2000) (hf : fu < 2 ^ 31) (hp : p < 224) (h10 : gc_la gc_L10 p = 11)
    (H0 : fu = 0 → gz_R post a5 n (s + 1) (p + 1) 0 2 ex pr l15 l16 a17) (H1 : ∀ g, fu = g + 1 → gz_R post a5 n (s + 1) (p + 1) g 0 (ex + 1) pr l15 l16 a17) : gz_R post a5 (n + 1) s p fu 0 ex pr l15 l16 a17 := by
  refine br_f (nI_ge (b := 2000) hs (by decide)) (br_t rfl (ge_tick hp hf h10 (fun e => nm_r (nI_1 s) (H0 e)) (fun g e => nm_r (nI_1 s) ?_)))
  have := H1 g e
  unfold gz_R at this
  rw [nI_succ ex] at this
  exact this
theorem gz_fetch (r y : Nat) (H : gz_R post a5 n (s + 1) (p + 1) fu 0 ex pr (gc_st l15 r (gc_la l16 y)) l16 a17) (hs : s < 2000) (hp : p < 224) (h10 : gc_la gc_L10 p = 12) (h11 : gc_la gc_L11 p = nI r) (h12 : gc_la gc_L12 p = nI y) (hr : r < 6) (hy : y < 8) : gz_R post a5 (n + 1) s p fu 0 ex pr l15 l16 a17 :=
  br_f (nI_ge (b := 2000) hs (by decide)) (br_t rfl (ge_fetch hp h10 h11 h12 hr hy (nm_r (nI_1 s) H)))
theorem gz_keep (r y : Nat) (H : gz_R post a5 n (s + 1) (p + 1) fu 0 ex pr l15 (gc_st l16 y (gc_la l15 r)) a17) (hs : s < 2000) (hp : p < 224) (h10 : gc_la gc_L10 p = 13) (h11 : gc_la gc_L11 p = nI r) (h12 : gc_la gc_L12 p = nI y) (hr : r < 6) (hy : y < 8) : gz_R post a5 (n + 1) s p fu 0 ex pr l15 l16 a17 :=
  br_f (nI_ge (b := 2000) hs (by decide)) (br_t rfl (ge_keep hp h10 h11 h12 hr hy (nm_r (nI_1 s) H)))
theorem gz_write (r : Nat) (H : gz_R post a5 n (s + 1) (p + 1) fu 0 ex (pr + 1) l15 l16 (upd a17 pr (gc_la l15 r))) (hs : s < 2000) (hp : p < 224) (h10 : gc_la gc_L10 p = 6) (h11 : gc_la gc_L11 p = nI r) (hr : r < 6) (hq : pr < 32) : gz_R post a5 (n + 1) s p fu 0 ex pr l15 l16 a17 :=
  br_f (nI_ge (b := 2000) hs (by decide)) (br_t rfl (ge_write hp h10 h11 hr hq (nm_r (nI_1 s) H)))
theorem gz_add (r y z : Nat) (H : gz_R post a5 n (s + 1) (p + 1) fu 0 ex pr (gc_st l15 r (gc_la l15 y + gc_la l15 z)) l16 a17) (hs : s < 2000) (hp : p < 224) (h10 : gc_la gc_L10 p = 2) (h11 : gc_la gc_L11 p = nI r) (h12 : gc_la gc_L12 p = nI y) (h13 : gc_la gc_L13 p = nI z) (hr : r < 6) (hy : y < 6) (hz : z < 6) : gz_R post a5 (n + 1) s p fu 0 ex pr l15 l16 a17 :=
  br_f (nI_ge (b := 2000) hs (by decide)) (br_t rfl (ge_add hp h10 h11 h12 h13 hr hy hz (nm_r (nI_1 s) H)))
theorem gz_sub (r y z : Nat) (H : gz_R post a5 n (s + 1) (p + 1) fu 0 ex pr (gc_st l15 r (gc_la l15 y - gc_la l15 z)) l16 a17) (hs : s < 2000) (hp : p < 224) (h10 : gc_la gc_L10 p = 3) (h11 : gc_la gc_L11 p = nI r) (h12 : gc_la gc_L12 p = nI y) (h13 : gc_la gc_L13 p = nI z) (hr : r < 6) (hy : y < 6) (hz : z < 6) : gz_R post a5 (n + 1) s p fu 0 ex pr l15 l16 a17 :=
  br_f (nI_ge (b := 2000) hs (by decide)) (br_t rfl (ge_sub hp h10 h11 h12 h13 hr hy hz (nm_r (nI_1 s) H)))
theorem gz_halt (H : gz_R post a5 n (s + 1) (p + 1) fu 1 ex pr l15 l16 a17) (hs : s < 2000) (hp : p < 224) (h10 : gc_la gc_L10 p = 10) : gz_R post a5 (n + 1) s p fu 0 ex pr l15 l16 a17 :=
  br_f (nI_ge (b := 2000) hs (by decide)) (br_t rfl (ge_halt hp h10 (nm_r (nI_1 s) H)))
theorem gz_jif (r y e : Nat) (H0 : gc_la l15 r = 0 → gz_R post a5 n (s + 1) (p + 1) fu 0 ex pr l15 l16 a17) (H1 : ¬ gc_la l15 r = 0 → gz_R post a5 n (s + 1) e fu 0 ex pr l15 l16 a17) (hs : s < 2000) (hp : p < 224) (h10 : gc_la gc_L10 p = 8) (h11 : gc_la gc_L11 p = nI r) (h12 : gc_la gc_L12 p = nI y) (h14 : gc_la gc_L14 y = nI e) (hr : r < 6) (hy : y < 36) : gz_R post a5 (n + 1) s p fu 0 ex pr l15 l16 a17 :=
  br_f (nI_ge (b := 2000) hs (by decide)) (br_t rfl (ge_jif hp h10 h11 h12 hr hy h14 (fun z => nm_r (nI_1 s) (H0 z)) (fun z => nm_r (nI_1 s) (H1 z))))
theorem gz_table (r y e0 e1 : Nat) (H0 : gc_la l15 r = 0 → gz_R post a5 n (s + 1) e0 fu 0 ex pr l15 l16 a17) (H1 : gc_la l15 r = 1 → gz_R post a5 n (s + 1) e1 fu 0 ex pr l15 l16 a17) (H2 : ¬ gc_la l15 r = 0 → ¬ gc_la l15 r = 1 → gz_R post a5 n (s + 1) (p + 1) fu 0 ex pr l15 l16 a17)
    (hs : s < 2000) (hp : p < 224) (h10 : gc_la gc_L10 p = 9) (h11 : gc_la gc_L11 p = nI r) (h12 : gc_la gc_L12 p = nI y) (h13 : gc_la gc_L13 p = 2) (h14 : gc_la gc_L14 y = nI e0) (h15 : gc_la gc_L14 (y + 1) = nI e1) (hr : r < 6) (hy : y < 30) : gz_R post a5 (n + 1) s p fu 0 ex pr l15 l16 a17 :=
  br_f (nI_ge (b := 2000) hs (by decide)) (br_t rfl (ge_table hp h10 h11 h12 h13 hr hy h14 h15 (fun z => nm_r (nI_1 s) (H0 z)) (fun z => nm_r (nI_1 s) (H1 z)) (fun z z2 => nm_r (nI_1 s) (H2 z z2))))
end
/-- what a finished run shows: t the tail's length, hb how many the tail prints, w its first value -/
def gz_Fin (a b w : Int32) (k f t hb oc ex pr : Nat) (a17 : Nat → Int32) : Prop :=
  ex = min f (4 * k + t) ∧ oc = (if 4 * k + t ≤ f then 1 else 2) ∧ pr = min ((ex + 3) / 4) k + min hb (ex - (4 * k + 1)) ∧ (∀ j, j < min ((ex + 3) / 4) k → a17 j = a + nI j * b) ∧
    (4 * k + 2 ≤ ex → a17 k = w) ∧ (hb = 2 → 4 * k + 3 ≤ ex → a17 (k + 1) = 1)
def gz_H (post : Int32 → St2 → Prop) (a5 : Nat → Int32) (a b w : Int32) (k f t hb : Nat) : Prop :=
  ∀ (pl fu oc ex pr : Nat) (l15 l16 : List Int32) (a17 : Nat → Int32), gz_Fin a b w k f t hb oc ex pr a17 → gz_P post a5 pl fu oc ex pr l15 l16 a17
theorem gz_fill {a b : Int32} {a17 : Nat → Int32} {m : Nat} (h : ∀ j, j < m → a17 j = a + nI j * b) : ∀ j, j < m + 1 → upd a17 m (a + nI m * b) j = a + nI j * b := by
  intro j hj
  by_cases e : j = m
  · rw [e, pk_us]
  · rw [pk_un e]
    exact h j (by omega)
theorem gz_nb (a b : Int32) (m : Nat) : a + nI m * b + b = a + nI (m + 1) * b := by
  rw [nI_succ, Int32.add_mul, Int32.one_mul, Int32.add_assoc]
/-- out of fuel before the tail prints -/
theorem gz_out {post : Int32 → St2 → Prop} {a5 a17 : Nat → Int32} {n s p fu ex pr k f t hb : Nat} {l15 l16 : List Int32} {a b w : Int32} (HF : gz_H post a5 a b w k f t hb) (he : ex = f) (hx : ex ≤ 4 * k + 1) (ht : 2 ≤ t) (hq : pr = min ((ex + 3) / 4) k)
    (hV : ∀ j, j < pr → a17 j = a + nI j * b) : gz_R post a5 (n + 1) s p fu 2 ex pr l15 l16 a17 :=
  gz_end (by omega) (by omega) (HF _ _ _ _ _ _ _ _ ⟨by omega, (if_neg (by omega)).symm, by omega, fun j hj => hV j (by omega), fun z => absurd z (by omega), fun _ z => absurd z (by omega)⟩)
theorem gz_body {post : Int32 → St2 → Prop} {a5 a17 : Nat → Int32} {n s fu k f t hb m d : Nat} {a b w pick x y z : Int32} (HF : gz_H post a5 a b w k f t hb) (ht : 2 ≤ t) (hk : k = m + d + 1) (hk8 : k ≤ 8) (hs : s + 14 ≤ 2000) (hf : f = 4 * m + fu) (hf2 : f ≤ 250)
    (hV : ∀ j, j < m → a17 j = a + nI j * b)
    (H0 : ∀ x y z g, d = 0 → fu = g + 4 → gz_R post a5 n (s + 14) 14 g 0 (4 * m + 4) (m + 1) [pick, 1, b, x, y, z] [nI d, a + nI (m + 1) * b] (upd a17 m (a + nI m * b)))
    (H1 : ∀ x y z g, d ≠ 0 → fu = g + 4 → gz_R post a5 n (s + 14) 0 g 0 (4 * m + 4) (m + 1) [pick, 1, b, x, y, z] [nI d, a + nI (m + 1) * b] (upd a17 m (a + nI m * b))) :
    gz_R post a5 (n + 14) s 0 fu 0 (4 * m) m [pick, 1, b, x, y, z] [nI (d + 1), a + nI m * b] a17 := by
  have hV' := gz_fill hV
  refine gz_tick (by omega) (by omega) (by decide) rfl (fun e => gz_out HF (by omega) (by omega) ht (by omega) hV) (fun g1 e1 => ?_)
  refine gz_fetch 3 1 ?_ (by omega) (by decide) rfl rfl rfl (by decide) (by decide)
  refine gz_write 3 ?_ (by omega) (by decide) rfl rfl (by decide) (by omega)
  refine gz_tick (by omega) (by omega) (by decide) rfl (fun e => gz_out HF (by omega) (by omega) ht (by omega) hV') (fun g2 e2 => ?_)
  refine gz_fetch 3 1 ?_ (by omega) (by decide) rfl rfl rfl (by decide) (by decide)
  refine gz_add 5 3 2 ?_ (by omega) (by decide) rfl rfl rfl rfl (by decide) (by decide) (by decide)
  refine gz_keep 5 1 ?_ (by omega) (by decide) rfl rfl rfl (by decide) (by decide)
  refine gz_tick (by omega) (by omega) (by decide) rfl (fun e => gz_out HF (by omega) (by omega) ht (by omega) hV') (fun g3 e3 => ?_)
  refine gz_fetch 3 0 ?_ (by omega) (by decide) rfl rfl rfl (by decide) (by decide)
  refine gz_sub 5 3 1 ?_ (by omega) (by decide) rfl rfl rfl rfl (by decide) (by decide) (by decide)
  refine gz_keep 5 0 ?_ (by omega) (by decide) rfl rfl rfl (by decide) (by decide)
  refine gz_tick (by omega) (by omega) (by decide) rfl (fun e => gz_out HF (by omega) (by omega) ht (by omega) hV') (fun g4 e4 => ?_)
  refine gz_fetch 3 0 ?_ (by omega) (by decide) rfl rfl rfl (by decide) (by decide)
  have E : nI (d + 1) - 1 = nI d := nI_pred d
  have E2 := gz_nb a b m
  have K : ∀ q : Nat, gz_R post a5 n (s + 14) q g4 0 (4 * m + 4) (m + 1) [pick, 1, b, nI d, y, nI d] [nI d, a + nI (m + 1) * b] (upd a17 m (a + nI m * b)) → gz_R post a5 n (s + 14) q g4 0 (4 * m + 4) (m + 1) [pick, 1, b, nI (d + 1) - 1, y, nI (d + 1) - 1] [nI (d + 1) - 1, a + nI m * b + b] (upd a17 m (a + nI m * b)) := by
    intro q hq
    rw [E, E2]
    exact hq
  refine gz_jif 3 0 0 (fun c => ?_) (fun c => ?_) (by omega) (by decide) rfl rfl rfl rfl (by decide) (by decide)
  · have c' : nI (d + 1) - 1 = 0 := c
    rw [E] at c'
    refine K 14 (H0 _ _ _ g4 ?_ (by omega))
    rcases Nat.eq_zero_or_pos d with e | e
    · exact e
    · exact absurd c' (nI_ne0 e (by omega))
  · have c' : ¬ nI (d + 1) - 1 = 0 := c
    rw [E] at c'
    refine K 0 (H1 _ _ _ g4 ?_ (by omega))
    intro e
    rw [e] at c'
    exact c' rfl
theorem gz_loop {post : Int32 → St2 → Prop} {a5 : Nat → Int32} {n k f t hb : Nat} {a b w pick : Int32} (HF : gz_H post a5 a b w k f t hb) (ht : 2 ≤ t) (hk8 : k ≤ 8) (hf2 : f ≤ 250)
    (HT : ∀ (x y z : Int32) (s fu : Nat) (l16 : List Int32) (a17 : Nat → Int32), s + 12 ≤ 2000 → f = 4 * k + fu → (∀ j, j < k → a17 j = a + nI j * b) → gz_R post a5 n s 14 fu 0 (4 * k) k [pick, 1, b, x, y, z] l16 a17) :
    ∀ (d m s fu : Nat) (x y z : Int32) (a17 : Nat → Int32), k = m + d + 1 → s + 14 * (d + 1) + 12 ≤ 2000 → f = 4 * m + fu → (∀ j, j < m → a17 j = a + nI j * b) → gz_R post a5 (n + 14 * (d + 1)) s 0 fu 0 (4 * m) m [pick, 1, b, x, y, z] [nI (d + 1), a + nI m * b] a17 := by
  intro d
  induction d with
  | zero =>
    intro m s fu x y z a17 hk hs hf hV
    refine gz_body HF ht hk hk8 (by omega) hf hf2 hV (fun x y z g _ e => ?_) (fun _ _ _ _ e _ => absurd rfl e)
    have := HT x y z (s + 14) g [nI 0, a + nI (m + 1) * b] (upd a17 m (a + nI m * b)) (by omega) (by omega) (fun j hj => gz_fill hV j (by omega))
    rw [show k = m + 1 by omega] at this
    exact this
  | succ d ih =>
    intro m s fu x y z a17 hk hs hf hV
    rw [show n + 14 * (d + 1 + 1) = n + 14 * (d + 1) + 14 by omega]
    refine gz_body HF ht hk hk8 (by omega) hf hf2 hV (fun _ _ _ _ e _ => absurd e (by omega)) (fun x y z g _ e => ?_)
    exact ih (m + 1) (s + 14) g x y z (upd a17 m (a + nI m * b)) (by omega) (by omega) (by omega) (gz_fill hV)
end
section
section
variable {post : Int32 → St2 → Prop} {a5 a17 : Nat → Int32} {n s fu k f : Nat} {l16 : List Int32} {a b pick x y z : Int32}
theorem gz_t0 (HF : gz_H post a5 a b b k f 3 2) (hk8 : k ≤ 8) (hs : s + 12 ≤ 2000) (hf : f = 4 * k + fu) (hf2 : f ≤ 250) (hV : ∀ j, j < k → a17 j = a + nI j * b) : gz_R post a5 (n + 12) s 14 fu 0 (4 * k) k [0, 1, b, x, y, z] l16 a17 := by
  refine gz_tick (by omega) (by omega) (by decide) rfl (fun e => gz_out HF (by omega) (by omega) (by omega) (by omega) hV) (fun g1 e1 => ?_)
  refine gz_table 0 7 20 22 (fun _ => ?_) (fun q => absurd (show (0 : Int32) = 1 from q) (by decide)) (fun q _ => absurd rfl q) (by omega) (by decide) rfl rfl rfl rfl rfl rfl (by decide) (by decide)
  refine gz_tick (by omega) (by omega) (by decide) rfl (fun e => gz_out HF (by omega) (by omega) (by omega) (by omega) hV) (fun g2 e2 => ?_)
  refine gz_write 2 ?_ (by omega) (by decide) rfl rfl (by decide) (by omega)
  refine gz_tick (by omega) (by omega) (by decide) rfl (fun e => gz_end (by omega) (by omega) (HF _ _ _ _ _ _ _ _ ⟨by omega, (if_neg (by omega)).symm, by omega, fun j hj => ?_, fun _ => pk_us, fun _ q => absurd q (by omega)⟩)) (fun g3 e3 => ?_)
  · rw [pk_un (show j ≠ k by omega)]
    exact hV j (by omega)
  refine gz_write 1 ?_ (by omega) (by decide) rfl rfl (by decide) (by omega)
  refine gz_halt (gz_end (by omega) (by omega) (HF _ _ _ _ _ _ _ _ ⟨by omega, (if_pos (by omega)).symm, by omega, fun j hj => ?_, fun _ => ?_, fun _ _ => pk_us⟩)) (by omega) (by decide) rfl
  · rw [pk_un (show j ≠ k + 1 by omega), pk_un (show j ≠ k by omega)]
    exact hV j (by omega)
  · rw [pk_un (show k ≠ k + 1 by omega), pk_us]
    rfl
theorem gz_t1 (HF : gz_H post a5 a b 1 k f 2 1) (hk8 : k ≤ 8) (hs : s + 12 ≤ 2000) (hf : f = 4 * k + fu) (hf2 : f ≤ 250) (hV : ∀ j, j < k → a17 j = a + nI j * b) : gz_R post a5 (n + 12) s 14 fu 0 (4 * k) k [1, 1, b, x, y, z] l16 a17 := by
  refine gz_tick (by omega) (by omega) (by decide) rfl (fun e => gz_out HF (by omega) (by omega) (by omega) (by omega) hV) (fun g1 e1 => ?_)
  refine gz_table 0 7 20 22 (fun q => absurd (show (1 : Int32) = 0 from q) (by decide)) (fun _ => ?_) (fun _ q => absurd rfl q) (by omega) (by decide) rfl rfl rfl rfl rfl rfl (by decide) (by decide)
  refine gz_tick (by omega) (by omega) (by decide) rfl (fun e => gz_out HF (by omega) (by omega) (by omega) (by omega) hV) (fun g2 e2 => ?_)
  refine gz_write 1 ?_ (by omega) (by decide) rfl rfl (by decide) (by omega)
  refine gz_halt (gz_end (by omega) (by omega) (HF _ _ _ _ _ _ _ _ ⟨by omega, (if_pos (by omega)).symm, by omega, fun j hj => ?_, fun _ => pk_us, fun q _ => absurd q (by decide)⟩)) (by omega) (by decide) rfl
  rw [pk_un (show j ≠ k by omega)]
  exact hV j (by omega)
theorem gz_t2 (HF : gz_H post a5 a b pick k f 3 1) (h0 : ¬ pick = 0) (h1 : ¬ pick = 1) (hk8 : k ≤ 8) (hs : s + 12 ≤ 2000) (hf : f = 4 * k + fu) (hf2 : f ≤ 250) (hV : ∀ j, j < k → a17 j = a + nI j * b) : gz_R post a5 (n + 12) s 14 fu 0 (4 * k) k [pick, 1, b, x, y, z] l16 a17 := by
  refine gz_tick (by omega) (by omega) (by decide) rfl (fun e => gz_out HF (by omega) (by omega) (by omega) (by omega) hV) (fun g1 e1 => ?_)
  refine gz_table 0 7 20 22 (fun q => absurd q h0) (fun q => absurd q h1) (fun _ _ => ?_) (by omega) (by decide) rfl rfl rfl rfl rfl rfl (by decide) (by decide)
  refine gz_tick (by omega) (by omega) (by decide) rfl (fun e => gz_out HF (by omega) (by omega) (by omega) (by omega) hV) (fun g2 e2 => ?_)
  refine gz_write 0 ?_ (by omega) (by decide) rfl rfl (by decide) (by omega)
  have hV2 : ∀ j, j < k → upd a17 k pick j = a + nI j * b := fun j hj => by
    rw [pk_un (show j ≠ k by omega)]
    exact hV j hj
  refine gz_tick (by omega) (by omega) (by decide) rfl (fun e => gz_end (by omega) (by omega) (HF _ _ _ _ _ _ _ _ ⟨by omega, (if_neg (by omega)).symm, by omega, fun j hj => hV2 j (by omega), fun _ => pk_us, fun q _ => absurd q (by decide)⟩)) (fun g3 e3 => ?_)
  exact gz_halt (gz_end (by omega) (by omega) (HF _ _ _ _ _ _ _ _ ⟨by omega, (if_pos (by omega)).symm, by omega, fun j hj => hV2 j (by omega), fun _ => pk_us, fun q _ => absurd q (by decide)⟩)) (by omega) (by decide) rfl
end
theorem gz_pad (p b : Int32) : gc_la [p, 1, b] = gc_la [p, 1, b, 0, 0, 0] := by
  funext j
  rcases j with _ | _ | _ | _ | _ | _ | j <;> rfl
/-- the run from its first step -/
theorem gz_main {post : Int32 → St2 → Prop} {a5 a17 : Nat → Int32} {k f : Nat} {a b pick : Int32} (hk : 1 ≤ k) (hk8 : k ≤ 8) (hf2 : f ≤ 250)
    (HF0 : pick = 0 → gz_H post a5 a b b k f 3 2) (HF1 : pick = 1 → gz_H post a5 a b 1 k f 2 1) (HF2 : ¬ pick = 0 → ¬ pick = 1 → gz_H post a5 a b pick k f 3 1) : ∃ n, gz_R post a5 n 0 0 f 0 0 0 [pick, 1, b] [nI k, a] a17 := by
  obtain ⟨d, hd⟩ : ∃ d, k = 0 + d + 1 := ⟨k - 1, by omega⟩
  have e0 : a + nI 0 * b = a := by rw [nI_0, Int32.zero_mul, Int32.add_zero]
  have e1 : [nI k, a] = [nI (d + 1), a + nI 0 * b] := by rw [e0, hd, Nat.zero_add]
  refine ⟨12 + 14 * (d + 1), ?_⟩
  rw [e1]
  unfold gz_R
  rw [gz_pad]
  have g0 : (0 : Nat) = 4 * 0 := rfl
  by_cases h0 : pick = 0
  · subst h0
    exact gz_loop (n := 12) (HF0 rfl) (by omega) hk8 hf2 (fun x y z s fu l16 a17 hs hf hV => gz_t0 (n := 0) (HF0 rfl) hk8 hs hf hf2 hV) d 0 0 f 0 0 0 a17 hd (by omega) (by omega) (fun j hj => absurd hj (by omega))
  · by_cases h1 : pick = 1
    · subst h1
      exact gz_loop (n := 12) (HF1 rfl) (by omega) hk8 hf2 (fun x y z s fu l16 a17 hs hf hV => gz_t1 (n := 0) (HF1 rfl) hk8 hs hf hf2 hV) d 0 0 f 0 0 0 a17 hd (by omega) (by omega) (fun j hj => absurd hj (by omega))
    · exact gz_loop (n := 12) (HF2 h0 h1) (by omega) hk8 hf2 (fun x y z s fu l16 a17 hs hf hV => gz_t2 (n := 0) (HF2 h0 h1) h0 h1 hk8 hs hf hf2 hV) d 0 0 f 0 0 0 a17 hd (by omega) (by omega) (fun j hj => absurd hj (by omega))
section
variable {post : Int32 → St2 → Prop} {z0 : Int32} {l5 l15 l16 : List Int32} {a17 : Nat → Int32} {n v : Nat}
theorem gz_ldm (H : wX_run_52 post 9 1 25 0 z0 0 0 0 n (nI (v + 1)) (gc_la gc_L1) (gc_la gc_L2) (gc_la gc_L3) (gc_la gc_L4) (gc_la l5) (gc_la gc_L6) (gc_la gc_L7) (gc_la gc_L8) (gc_la gc_L9) (gc_la gc_L10) (gc_la gc_L11) (gc_la gc_L12) (gc_la gc_L13) (gc_la gc_L14) (gc_la l15) (gc_la (gc_st l16 v (gc_la l5 v))) a17) (hv : v < 8) (h8 : ¬ 0 ≤ gc_la gc_L8 v) :
    wX_run_52 post 9 1 25 0 z0 0 0 0 (n + 1) (nI v) (gc_la gc_L1) (gc_la gc_L2) (gc_la gc_L3) (gc_la gc_L4) (gc_la l5) (gc_la gc_L6) (gc_la gc_L7) (gc_la gc_L8) (gc_la gc_L9) (gc_la gc_L10) (gc_la gc_L11) (gc_la gc_L12) (gc_la gc_L13) (gc_la gc_L14) (gc_la l15) (gc_la l16) a17 := by
  have hc : (nI v).toNatClampNeg = v := nI_clamp (by omega)
  refine br_f (nI_ge (b := 8) hv (by decide)) ⟨vp_in_nI hv (by omega), br_f (by rw [hc]; exact h8) ⟨vp_in_nI hv (by omega), vp_in_nI hv (by omega), nm_r ?_ (nm_r (nI_1 v) H)⟩⟩
  rw [hc]
  exact gc_upd _ _ _
theorem gz_ldr (c : Nat) (H : wX_run_52 post 9 1 25 0 z0 0 0 0 n (nI (v + 1)) (gc_la gc_L1) (gc_la gc_L2) (gc_la gc_L3) (gc_la gc_L4) (gc_la l5) (gc_la gc_L6) (gc_la gc_L7) (gc_la gc_L8) (gc_la gc_L9) (gc_la gc_L10) (gc_la gc_L11) (gc_la gc_L12) (gc_la gc_L13) (gc_la gc_L14) (gc_la (gc_st l15 c (gc_la l5 v))) (gc_la l16) a17) (hv : v < 8) (h8 : gc_la gc_L8 v = nI c) (hc6 : c < 6) (hb : ¬ (((31 : Int32) >>> (nI v &&& 31)) &&& 1) = 0) :
    wX_run_52 post 9 1 25 0 z0 0 0 0 (n + 1) (nI v) (gc_la gc_L1) (gc_la gc_L2) (gc_la gc_L3) (gc_la gc_L4) (gc_la l5) (gc_la gc_L6) (gc_la gc_L7) (gc_la gc_L8) (gc_la gc_L9) (gc_la gc_L10) (gc_la gc_L11) (gc_la gc_L12) (gc_la gc_L13) (gc_la gc_L14) (gc_la l15) (gc_la l16) a17 := by
  have hc : (nI v).toNatClampNeg = v := nI_clamp (by omega)
  have h8' : gc_la gc_L8 (nI v).toNatClampNeg = nI c := by rw [hc]; exact h8
  have hl : gc_liveAt 9 gc_L6 0 = some 31 := by decide +kernel
  refine br_f (nI_ge (b := 8) hv (by decide)) ⟨vp_in_nI hv (by omega), br_t (by rw [h8']; exact nI_pos' (by omega)) (gv_liveAt hl (br_f hb ⟨vp_in_nI hv (by omega), vp_in_nI hv (by omega), by rw [h8']; exact vp_in_nI hc6 (by omega), nm_r ?_ (nm_r (nI_1 v) H)⟩))⟩
  rw [h8', hc, nI_clamp (show c < 2 ^ 31 by omega)]
  exact gc_upd _ _ _
theorem gz_ldn (H : wX_run_52 post 9 1 25 0 z0 0 0 0 n (nI (v + 1)) (gc_la gc_L1) (gc_la gc_L2) (gc_la gc_L3) (gc_la gc_L4) (gc_la l5) (gc_la gc_L6) (gc_la gc_L7) (gc_la gc_L8) (gc_la gc_L9) (gc_la gc_L10) (gc_la gc_L11) (gc_la gc_L12) (gc_la gc_L13) (gc_la gc_L14) (gc_la l15) (gc_la l16) a17) (hv : v < 8) (h8 : gc_la gc_L8 v = 0) (hb : (((31 : Int32) >>> (nI v &&& 31)) &&& 1) = 0) :
    wX_run_52 post 9 1 25 0 z0 0 0 0 (n + 1) (nI v) (gc_la gc_L1) (gc_la gc_L2) (gc_la gc_L3) (gc_la gc_L4) (gc_la l5) (gc_la gc_L6) (gc_la gc_L7) (gc_la gc_L8) (gc_la gc_L9) (gc_la gc_L10) (gc_la gc_L11) (gc_la gc_L12) (gc_la gc_L13) (gc_la gc_L14) (gc_la l15) (gc_la l16) a17 := by
  have hc : (nI v).toNatClampNeg = v := nI_clamp (by omega)
  have h8' : gc_la gc_L8 (nI v).toNatClampNeg = 0 := by rw [hc]; exact h8
  have hl : gc_liveAt 9 gc_L6 0 = some 31 := by decide +kernel
  exact br_f (nI_ge (b := 8) hv (by decide)) ⟨vp_in_nI hv (by omega), br_t (by rw [h8']; decide) (gv_liveAt hl (br_t hb (nm_r (nI_1 v) H)))⟩
theorem gz_load {f3 f4 f5 f6 f7 x0 x1 x2 x3 x4 : Int32} (H : ∃ m, wX_run_119 post m 0 9 1 25 0 z0 0 0 0 (gc_la gc_L1) (gc_la gc_L2) (gc_la gc_L3) (gc_la gc_L4) (gc_la [x0, x1, x2, x3, x4]) (gc_la gc_L6) (gc_la gc_L7) (gc_la gc_L8) (gc_la gc_L9) (gc_la gc_L10) (gc_la gc_L11) (gc_la gc_L12) (gc_la gc_L13) (gc_la gc_L14) (gc_la [x4, x3, x2]) (gc_la [x0, x1]) a17) :
    wX_run_27 post z0 9 1 25 f3 f4 f5 f6 f7 (gc_la gc_L1) (gc_la gc_L2) (gc_la gc_L3) (gc_la gc_L4) (gc_la [x0, x1, x2, x3, x4]) (gc_la gc_L6) (gc_la gc_L7) (gc_la gc_L8) (gc_la gc_L9) (gc_la gc_L10) (gc_la gc_L11) (gc_la gc_L12) (gc_la gc_L13) (gc_la gc_L14) (gc_la []) (gc_la []) a17 := by
  refine ⟨9, ?_⟩
  refine gz_ldm (v := 0) ?_ (by decide) (by decide)
  refine gz_ldm (v := 1) ?_ (by decide) (by decide)
  refine gz_ldr (v := 2) 2 ?_ (by decide) rfl (by decide) (by decide)
  refine gz_ldr (v := 3) 1 ?_ (by decide) rfl (by decide) (by decide)
  refine gz_ldr (v := 4) 0 ?_ (by decide) rfl (by decide) (by decide)
  refine gz_ldn (v := 5) ?_ (by decide) rfl (by decide)
  refine gz_ldn (v := 6) ?_ (by decide) rfl (by decide)
  refine gz_ldn (v := 7) ?_ (by decide) rfl (by decide)
  exact br_t (by decide) H
end
end
section
section
variable {f3 f4 f5 f6 : Int32} {a5 a15 a16 a17 : Nat → Int32}
/-- a run of the law's program with clamped fuel f -/
theorem gl_run {post : Int32 → St2 → Prop} {f7 : Int32} {k f : Nat} {a b pick fuel : Int32} (hk : 1 ≤ k) (hk8 : k ≤ 8) (hf2 : f ≤ 250) (hfu : (fuel = nI f) ∨ (¬ 0 ≤ fuel ∧ f = 0) ∨ (0 ≤ fuel ∧ ¬ fuel ≤ 250 ∧ f = 250))
    (HF0 : pick = 0 → gz_H post (gc_la [nI k, a, b, 1, pick]) a b b k f 3 2) (HF1 : pick = 1 → gz_H post (gc_la [nI k, a, b, 1, pick]) a b 1 k f 2 1) (HF2 : ¬ pick = 0 → ¬ pick = 1 → gz_H post (gc_la [nI k, a, b, 1, pick]) a b pick k f 3 1) :
    wpX_run post (9, 0, 0, f3, f4, f5, f6, f7, gc_la gc_L1, gc_la gc_L2, gc_la gc_L3, gc_la gc_L4, gc_la [nI k, a, b, 1, pick], gc_la [], gc_la [], gc_la [], gc_la [], gc_la [], gc_la [], gc_la [], gc_la [], gc_la [], gc_la [], gc_la [], a17) fuel := by
  have M := gz_main (post := post) (a17 := a17) hk hk8 hf2 HF0 HF1 HF2
  refine gk_compile ?_
  rcases hfu with e | ⟨e, e2⟩ | ⟨e, e2, e3⟩
  · subst e
    exact br_t (nI_pos' (by omega)) (br_t (nI_le (b := 250) hf2 (by decide)) (gz_load M))
  · subst e2
    exact br_f e (gz_load M)
  · subst e3
    exact br_t e (br_f e2 (gz_load M))
theorem gl_output {post : Int32 → Prop} {f0 f1 f2 : Int32} {a1 a2 a3 a4 a6 a7 a8 a9 a10 a11 a12 a13 a14 : Nat → Int32} {p pr : Nat} (hp : p < pr) (hq : pr ≤ 32) (H : post (a17 p)) : wpX_output post (f0, f1, f2, f3, f4, f5, f6, nI pr, a1, a2, a3, a4, a5, a6, a7, a8, a9, a10, a11, a12, a13, a14, a15, a16, a17) (nI p) :=
  br_f (nI_pos (by omega)) (br_f (nI_ge hp (by omega)) (br_t (nI_lt (b := 32) (by omega) (by decide)) ⟨vp_in_nI (by omega) (by omega), by rw [nI_clamp (show p < 2 ^ 31 by omega)]; exact H⟩))
theorem gl_live {post : Int32 → St2 → Prop} {f7 : Int32} (p : Nat) {r : Int32} (hp : p < 9) (hr : gc_la gc_L6 p = r) (H : post r (9, 1, 25, f3, f4, f5, f6, f7, gc_la gc_L1, gc_la gc_L2, gc_la gc_L3, gc_la gc_L4, a5, gc_la gc_L6, gc_la gc_L7, gc_la gc_L8, gc_la gc_L9, gc_la gc_L10, gc_la gc_L11, gc_la gc_L12, gc_la gc_L13, gc_la gc_L14, a15, a16, a17)) : wpX_live post (9, 1, 25, f3, f4, f5, f6, f7, gc_la gc_L1, gc_la gc_L2, gc_la gc_L3, gc_la gc_L4, a5, gc_la gc_L6, gc_la gc_L7, gc_la gc_L8, gc_la gc_L9, gc_la gc_L10, gc_la gc_L11, gc_la gc_L12, gc_la gc_L13, gc_la gc_L14, a15, a16, a17) (nI p) :=
  br_f (nI_pos (by omega)) (br_t (nI_lt (b := 9) hp (by decide)) (gv_compiled (by decide) ⟨vp_in_nI (by omega) (by omega), by rw [nI_clamp (show p < 2 ^ 31 by omega), hr]; exact H⟩))
theorem gl_live9 {post : Int32 → St2 → Prop} {f7 : Int32} (H : post 0 (9, 1, 25, f3, f4, f5, f6, f7, gc_la gc_L1, gc_la gc_L2, gc_la gc_L3, gc_la gc_L4, a5, gc_la gc_L6, gc_la gc_L7, gc_la gc_L8, gc_la gc_L9, gc_la gc_L10, gc_la gc_L11, gc_la gc_L12, gc_la gc_L13, gc_la gc_L14, a15, a16, a17)) : wpX_live post (9, 1, 25, f3, f4, f5, f6, f7, gc_la gc_L1, gc_la gc_L2, gc_la gc_L3, gc_la gc_L4, a5, gc_la gc_L6, gc_la gc_L7, gc_la gc_L8, gc_la gc_L9, gc_la gc_L10, gc_la gc_L11, gc_la gc_L12, gc_la gc_L13, gc_la gc_L14, a15, a16, a17) 9 :=
  br_f (by decide) (br_f (by decide) H)
def gc_mt24 (l6 : List Int32) (x1 x2 : Int32) : Nat → Int32 → Option Int32
  | 0, _ => none
  | n + 1, x3 => if 9 ≤ x3 then some 0 else if gc_in x3 32 = true then (if gc_in x3 32 = true then (if ((((gc_la l6 x3.toNatClampNeg) >>> (x1 &&& 31)) &&& ((gc_la l6 x3.toNatClampNeg) >>> (x2 &&& 31))) &&& 1) = 0 then gc_mt24 l6 x1 x2 n (x3 + 1) else some 1) else none) else none
theorem gv_mt24 {post : Int32 → St2 → Prop} {f7 x1 x2 r : Int32} (hp : post r (9, 1, 25, f3, f4, f5, f6, f7, gc_la gc_L1, gc_la gc_L2, gc_la gc_L3, gc_la gc_L4, a5, gc_la gc_L6, gc_la gc_L7, gc_la gc_L8, gc_la gc_L9, gc_la gc_L10, gc_la gc_L11, gc_la gc_L12, gc_la gc_L13, gc_la gc_L14, a15, a16, a17)) : ∀ (n : Nat) (x3 : Int32), gc_mt24 gc_L6 x1 x2 n x3 = some r → wX_meet_24 post x1 x2 9 1 25 f3 f4 f5 f6 f7 (gc_la gc_L1) (gc_la gc_L2) (gc_la gc_L3) (gc_la gc_L4) a5 (gc_la gc_L6) (gc_la gc_L7) (gc_la gc_L8) (gc_la gc_L9) (gc_la gc_L10) (gc_la gc_L11) (gc_la gc_L12) (gc_la gc_L13) (gc_la gc_L14) a15 a16 a17 n x3 := by
  intro n
  induction n with
  | zero => exact fun _ h => gc_no h
  | succ n ih =>
    intro x3 h
    exact gc_if h (fun _ h => gc_so (P := fun q => post q (9, 1, 25, f3, f4, f5, f6, f7, gc_la gc_L1, gc_la gc_L2, gc_la gc_L3, gc_la gc_L4, a5, gc_la gc_L6, gc_la gc_L7, gc_la gc_L8, gc_la gc_L9, gc_la gc_L10, gc_la gc_L11, gc_la gc_L12, gc_la gc_L13, gc_la gc_L14, a15, a16, a17)) h hp) (fun _ h => gc_g h (fun h => gc_g h (fun h => gc_if h (fun _ h => nm_e (ih _ h)) (fun _ h => gc_so (P := fun q => post q (9, 1, 25, f3, f4, f5, f6, f7, gc_la gc_L1, gc_la gc_L2, gc_la gc_L3, gc_la gc_L4, a5, gc_la gc_L6, gc_la gc_L7, gc_la gc_L8, gc_la gc_L9, gc_la gc_L10, gc_la gc_L11, gc_la gc_L12, gc_la gc_L13, gc_la gc_L14, a15, a16, a17)) h hp))))
theorem gl_meet {post : Int32 → St2 → Prop} {f7 x1 x2 : Int32} (r : Int32) (h1 : gc_isV x1 = some 1) (h2 : gc_isV x2 = some 1) (h : gc_mt24 gc_L6 x1 x2 12 0 = some r) (hp : post r (9, 1, 25, f3, f4, f5, f6, f7, gc_la gc_L1, gc_la gc_L2, gc_la gc_L3, gc_la gc_L4, a5, gc_la gc_L6, gc_la gc_L7, gc_la gc_L8, gc_la gc_L9, gc_la gc_L10, gc_la gc_L11, gc_la gc_L12, gc_la gc_L13, gc_la gc_L14, a15, a16, a17)) : wpX_meet post (9, 1, 25, f3, f4, f5, f6, f7, gc_la gc_L1, gc_la gc_L2, gc_la gc_L3, gc_la gc_L4, a5, gc_la gc_L6, gc_la gc_L7, gc_la gc_L8, gc_la gc_L9, gc_la gc_L10, gc_la gc_L11, gc_la gc_L12, gc_la gc_L13, gc_la gc_L14, a15, a16, a17) x1 x2 := by
  unfold wpX_meet
  exact gv_isV h1 (br_f (by decide) (gv_isV h2 (br_f (by decide) (gv_compiled (by decide) ⟨12, gv_mt24 hp 12 0 h⟩))))
theorem gl_475 {post : Int32 → St0 → Prop} {f7 : Int32} {mc ms kc ks : Nat} (hp : post 1 ()) : wL_lawOf_475 post mc ms kc ks 9 1 25 f3 f4 f5 f6 f7 (gc_la gc_L1) (gc_la gc_L2) (gc_la gc_L3) (gc_la gc_L4) a5 (gc_la gc_L6) (gc_la gc_L7) (gc_la gc_L8) (gc_la gc_L9) (gc_la gc_L10) (gc_la gc_L11) (gc_la gc_L12) (gc_la gc_L13) (gc_la gc_L14) a15 a16 a17 :=
  gl_live 0 (by decide) rfl (br_t rfl (gl_live 4 (by decide) rfl (br_t rfl (gl_live 5 (by decide) rfl (br_t rfl (gl_live 6 (by decide) rfl (br_t rfl (gl_live 7 (by decide) rfl (br_t rfl (gl_live 8 (by decide) rfl (br_t rfl
    (gl_meet 1 (by decide) (by decide) (by decide +kernel) (br_f (by decide) (gl_meet 1 (by decide) (by decide) (by decide +kernel) (br_f (by decide) (gl_meet 0 (by decide) (by decide) (by decide +kernel) (br_t rfl
      (gl_live9 (br_t rfl hp)))))))))))))))))))
theorem gl_454 {post : Int32 → St0 → Prop} {mc ms kc ks lo h pr : Nat} (hp : post 1 ()) (hh : h ≤ 2) (hq : lo + h ≤ pr) (hpr : pr ≤ 32) (hv : 1 < h → a17 (lo + 1) = 1) : wL_lawOf_454 post mc ms (nI lo) (nI h) kc ks 9 1 25 f3 f4 f5 f6 (nI pr) (gc_la gc_L1) (gc_la gc_L2) (gc_la gc_L3) (gc_la gc_L4) a5 (gc_la gc_L6) (gc_la gc_L7) (gc_la gc_L8) (gc_la gc_L9) (gc_la gc_L10) (gc_la gc_L11) (gc_la gc_L12) (gc_la gc_L13) (gc_la gc_L14) a15 a16 a17 :=
  pk_le h 1 (fun _ => gl_475 hp) (fun z => by rw [nI_1]; exact gl_output (by omega) hpr (br_t (hv z) (gl_475 hp)))
theorem gl_433 {post : Int32 → St0 → Prop} {mc ms kc ks lo h pr : Nat} {w : Int32} (hp : post 1 ()) (hh : h ≤ 2) (hq : lo + h ≤ pr) (hpr : pr ≤ 32) (hw : 0 < h → a17 lo = w) (hv : 1 < h → a17 (lo + 1) = 1) : wL_lawOf_433 post mc ms (nI lo) (nI h) w kc ks 9 1 25 f3 f4 f5 f6 (nI pr) (gc_la gc_L1) (gc_la gc_L2) (gc_la gc_L3) (gc_la gc_L4) a5 (gc_la gc_L6) (gc_la gc_L7) (gc_la gc_L8) (gc_la gc_L9) (gc_la gc_L10) (gc_la gc_L11) (gc_la gc_L12) (gc_la gc_L13) (gc_la gc_L14) a15 a16 a17 :=
  pk_le h 0 (fun _ => gl_454 hp hh hq hpr hv) (fun z => gl_output (by omega) hpr (br_t (hw z) (gl_454 hp hh hq hpr hv)))
/-- the law's first value behind the loop -/
def gl_w (b pick : Int32) : Int32 := if pick = 0 then b else if pick = 1 then 1 else pick
theorem gl_375 {post : Int32 → St0 → Prop} {mc ms kc ks lo h pr : Nat} {a b pick : Int32} (hp : post 1 ()) (hh : h ≤ 2) (hq : lo + h ≤ pr) (hpr : pr ≤ 32) (hV : ∀ j, j < lo → a17 j = a + nI j * b) (hw : 0 < h → a17 lo = gl_w b pick) (hv : 1 < h → a17 (lo + 1) = 1) :
    ∃ n, wL_lawOf_375 post mc ms b pick (nI lo) (nI h) kc ks 9 1 25 f3 f4 f5 f6 (nI pr) (gc_la gc_L1) (gc_la gc_L2) (gc_la gc_L3) (gc_la gc_L4) a5 (gc_la gc_L6) (gc_la gc_L7) (gc_la gc_L8) (gc_la gc_L9) (gc_la gc_L10) (gc_la gc_L11) (gc_la gc_L12) (gc_la gc_L13) (gc_la gc_L14) a15 a16 a17 n a 0 := by
  have e0 : a + nI 0 * b = a := by rw [nI_0, Int32.zero_mul, Int32.add_zero]
  have L := pk_loop (σ := Unit) (fun n i _ => wL_lawOf_375 post mc ms b pick (nI lo) (nI h) kc ks 9 1 25 f3 f4 f5 f6 (nI pr) (gc_la gc_L1) (gc_la gc_L2) (gc_la gc_L3) (gc_la gc_L4) a5 (gc_la gc_L6) (gc_la gc_L7) (gc_la gc_L8) (gc_la gc_L9) (gc_la gc_L10) (gc_la gc_L11) (gc_la gc_L12) (gc_la gc_L13) (gc_la gc_L14) a15 a16 a17 n (a + nI i * b) (nI i)) (fun _ _ => True) 8 0 () (by omega) trivial
    (fun n _ _ => pk_le 8 8 (fun _ => br_c (fun c => gl_433 hp hh hq hpr (fun z => by rw [hw z, gl_w, if_pos c]) hv) (fun c => br_c (fun c1 => gl_433 hp hh hq hpr (fun z => by rw [hw z, gl_w, if_neg c, if_pos c1]) hv) (fun c1 => gl_433 hp hh hq hpr (fun z => by rw [hw z, gl_w, if_neg c, if_neg c1]) hv))) (fun z => absurd z (by omega)))
    (fun n i _ hi _ hn => pk_le 8 i (fun z => absurd z (by omega)) (fun _ => pk_le lo i (fun _ => nm_r (gz_nb a b i) (nm_r (nI_1 i) (hn () trivial)))
      (fun z => gl_output (by omega) hpr (br_t (hV i z) (nm_r (gz_nb a b i) (nm_r (nI_1 i) (hn () trivial)))))))
  obtain ⟨n, hn⟩ := L
  refine ⟨n, ?_⟩
  have hn' : wL_lawOf_375 post mc ms b pick (nI lo) (nI h) kc ks 9 1 25 f3 f4 f5 f6 (nI pr) (gc_la gc_L1) (gc_la gc_L2) (gc_la gc_L3) (gc_la gc_L4) a5 (gc_la gc_L6) (gc_la gc_L7) (gc_la gc_L8) (gc_la gc_L9) (gc_la gc_L10) (gc_la gc_L11) (gc_la gc_L12) (gc_la gc_L13) (gc_la gc_L14) a15 a16 a17 n (a + nI 0 * b) (nI 0) := hn
  rw [e0] at hn'
  exact hn'
theorem gl_352 {post : Int32 → St0 → Prop} {mc ms kc ks lo h pr : Nat} {a b pick z0 : Int32} (hz : z0 = nI h) (hp : post 1 ()) (hh : h ≤ 2) (hq : pr = lo + h) (hpr : pr ≤ 32) (hV : ∀ j, j < lo → a17 j = a + nI j * b) (hw : 0 < h → a17 lo = gl_w b pick) (hv : 1 < h → a17 (lo + 1) = 1) :
    wL_lawOf_352 post mc ms a b pick (nI lo) z0 kc ks 9 1 25 f3 f4 f5 f6 (nI pr) (gc_la gc_L1) (gc_la gc_L2) (gc_la gc_L3) (gc_la gc_L4) a5 (gc_la gc_L6) (gc_la gc_L7) (gc_la gc_L8) (gc_la gc_L9) (gc_la gc_L10) (gc_la gc_L11) (gc_la gc_L12) (gc_la gc_L13) (gc_la gc_L14) a15 a16 a17 := by
  subst hz
  exact br_t (by rw [hq, nI_add]) (gl_375 hp hh (by omega) hpr hV hw hv)
theorem gl_sub {ex k c : Nat} (he : ex < 2 ^ 20) (hk : k < 2 ^ 20) (hc : c < 2 ^ 20) : nI ex - 4 * nI k ≤ nI c ↔ ex ≤ 4 * k + c := by
  have e : (4 : Int32) * nI k = nI (4 * k) := pk_mul 4 k
  rw [e, Int32.le_iff_toInt_le, pk_sub_toInt (by omega) (by omega), nI_toInt (by omega)]
  omega
/-- behind, as the law counts it -/
def gl_hb (pick : Int32) : Nat := if pick = 0 then 2 else 1
theorem gl_302 {post : Int32 → St0 → Prop} {mc ms kc ks lo k ex pr : Nat} {a b pick : Int32} (hp : post 1 ()) (he : ex < 2 ^ 20) (hk : k < 2 ^ 20) (hex : ex ≤ 4 * k + 3) (hq : pr = lo + min (gl_hb pick) (ex - (4 * k + 1))) (hpr : pr ≤ 32) (hV : ∀ j, j < lo → a17 j = a + nI j * b)
    (hw : 4 * k + 2 ≤ ex → a17 lo = gl_w b pick) (hv : gl_hb pick = 2 → 4 * k + 3 ≤ ex → a17 (lo + 1) = 1) : wL_lawOf_302 post mc ms a b pick (nI k) (nI ex) (nI lo) kc ks 9 1 25 f3 f4 f5 f6 (nI pr) (gc_la gc_L1) (gc_la gc_L2) (gc_la gc_L3) (gc_la gc_L4) a5 (gc_la gc_L6) (gc_la gc_L7) (gc_la gc_L8) (gc_la gc_L9) (gc_la gc_L10) (gc_la gc_L11) (gc_la gc_L12) (gc_la gc_L13) (gc_la gc_L14) a15 a16 a17 := by
  have s1 : nI ex - 4 * nI k ≤ 1 ↔ ex ≤ 4 * k + 1 := gl_sub (c := 1) he hk (by omega)
  have s2 : nI ex - 4 * nI k ≤ 2 ↔ ex ≤ 4 * k + 2 := gl_sub (c := 2) he hk (by omega)
  refine nm_e (br_c (fun c => ?_) (fun c => ?_))
  · have hb : gl_hb pick = 2 := if_pos c
    rw [hb] at hq hv
    refine ek_if s2 (fun q2 => ek_if s1 (fun q1 => ?_) (fun q1 => ?_)) (fun q2 => ?_)
    · exact gl_352 (h := 0) rfl hp (by omega) (by omega) hpr hV (fun z => absurd z (by omega)) (fun z => absurd z (by omega))
    · exact gl_352 (h := 1) rfl hp (by omega) (by omega) hpr hV (fun z => hw (by omega)) (fun z => absurd z (by omega))
    · exact gl_352 (h := 2) rfl hp (by omega) (by omega) hpr hV (fun z => hw (by omega)) (fun z => hv rfl (by omega))
  · have hb : gl_hb pick = 1 := if_neg c
    rw [hb] at hq hv
    refine ek_if s1 (fun q1 => ?_) (fun q1 => ?_)
    · exact gl_352 (h := 0) rfl hp (by omega) (by omega) hpr hV (fun z => absurd z (by omega)) (fun z => absurd z (by omega))
    · exact gl_352 (h := 1) rfl hp (by omega) (by omega) hpr hV (fun z => hw (by omega)) (fun z => absurd z (by omega))
theorem gl_266 {post : Int32 → St0 → Prop} {mc ms kc ks k ex pr : Nat} {a b pick z0 : Int32} (hz : z0 = nI ex) (hp : post 1 ()) (hk8 : k ≤ 8) (hex : ex ≤ 4 * k + 3) (hq : pr = min ((ex + 3) / 4) k + min (gl_hb pick) (ex - (4 * k + 1)))
    (hV : ∀ j, j < min ((ex + 3) / 4) k → a17 j = a + nI j * b) (hw : 4 * k + 2 ≤ ex → a17 k = gl_w b pick) (hv : gl_hb pick = 2 → 4 * k + 3 ≤ ex → a17 (k + 1) = 1) : wL_lawOf_266 post mc ms a b pick (nI k) z0 kc ks 9 1 25 f3 f4 f5 (nI ex) (nI pr) (gc_la gc_L1) (gc_la gc_L2) (gc_la gc_L3) (gc_la gc_L4) a5 (gc_la gc_L6) (gc_la gc_L7) (gc_la gc_L8) (gc_la gc_L9) (gc_la gc_L10) (gc_la gc_L11) (gc_la gc_L12) (gc_la gc_L13) (gc_la gc_L14) a15 a16 a17 := by
  subst hz
  have hd : (nI ex + 3) / 4 = nI ((ex + 3) / 4) := by
    have e1 : nI ex + 3 = nI (ex + 3) := nI_add ex 3
    rw [e1]
    exact pk_div (d := 4) (by omega) (by decide) (by decide)
  have hh : gl_hb pick ≤ 2 := by
    unfold gl_hb
    split <;> decide
  refine br_t rfl ⟨by decide, ?_⟩
  refine pk_le k ((ex + 3) / 4) (fun z => ?_) (fun z => ⟨by decide, ?_⟩) rfl hd
  · have e : min ((ex + 3) / 4) k = k := by omega
    rw [e] at hq hV
    exact gl_302 hp (by omega) (by omega) hex hq (by omega) hV hw hv
  · have e : min ((ex + 3) / 4) k = (ex + 3) / 4 := by omega
    rw [e] at hq hV
    rw [hd]
    exact gl_302 hp (by omega) (by omega) hex hq (by omega) hV (fun z => absurd z (by omega)) (fun _ z => absurd z (by omega))
end
end
section
theorem gl_post {post : Int32 → St0 → Prop} {f3 f4 : Int32} {a5 a15 a16 a17 : Nat → Int32} {mc ms kc ks k f t oc ex pr : Nat} {a b pick ov : Int32} (hF : gz_Fin a b (gl_w b pick) k f t (gl_hb pick) oc ex pr a17) (ht : t ≤ 3) (hk8 : k ≤ 8) (hp : post 1 ())
    (hov : (ov = 0 ∧ f < 4 * k + t) ∨ (ov = 1 ∧ 4 * k + t ≤ f)) :
    (ov = 0 → wL_lawOf_249 post mc ms a b pick (nI k) (nI f) (nI (4 * k + t)) ov 2 (nI oc) kc ks 9 1 25 f3 f4 (nI oc) (nI ex) (nI pr) (gc_la gc_L1) (gc_la gc_L2) (gc_la gc_L3) (gc_la gc_L4) a5 (gc_la gc_L6) (gc_la gc_L7) (gc_la gc_L8) (gc_la gc_L9) (gc_la gc_L10) (gc_la gc_L11) (gc_la gc_L12) (gc_la gc_L13) (gc_la gc_L14) a15 a16 a17) ∧ (¬ ov = 0 → wL_lawOf_249 post mc ms a b pick (nI k) (nI f) (nI (4 * k + t)) ov 1 (nI oc) kc ks 9 1 25 f3 f4 (nI oc) (nI ex) (nI pr) (gc_la gc_L1) (gc_la gc_L2) (gc_la gc_L3) (gc_la gc_L4) a5 (gc_la gc_L6) (gc_la gc_L7) (gc_la gc_L8) (gc_la gc_L9) (gc_la gc_L10) (gc_la gc_L11) (gc_la gc_L12) (gc_la gc_L13) (gc_la gc_L14) a15 a16 a17) := by
  obtain ⟨h1, h2, h3, h4, h5, h6⟩ := hF
  rcases hov with ⟨e, q⟩ | ⟨e, q⟩
  · subst e
    rw [if_neg (by omega)] at h2
    subst h2
    exact br_t rfl (br_t rfl (br_t rfl (gl_266 (by rw [show ex = f by omega]) hp hk8 (by omega) h3 h4 h5 h6)))
  · subst e
    rw [if_pos q] at h2
    subst h2
    exact br_f (by decide) (br_t rfl (br_f (by decide) (gl_266 (by rw [show ex = 4 * k + t by omega]) hp hk8 (by omega) h3 h4 h5 h6)))
theorem gl_230 {post : Int32 → St0 → Prop} {f3 f4 f5 f6 f7 : Int32} {a17 : Nat → Int32} {mc ms kc ks k f t : Nat} {a b pick ov fuel : Int32} (hk : 1 ≤ k) (hk8 : k ≤ 8) (hf2 : f ≤ 250) (hfu : (fuel = nI f) ∨ (¬ 0 ≤ fuel ∧ f = 0) ∨ (0 ≤ fuel ∧ ¬ fuel ≤ 250 ∧ f = 250))
    (ht0 : pick = 0 → t = 3) (ht1 : pick = 1 → t = 2) (ht2 : ¬ pick = 0 → ¬ pick = 1 → t = 3) (hp : post 1 ()) (hov : (ov = 0 ∧ f < 4 * k + t) ∨ (ov = 1 ∧ 4 * k + t ≤ f)) :
    wL_lawOf_230 post mc ms a b pick fuel (nI k) (nI f) (nI (4 * k + t)) ov kc ks 9 0 0 f3 f4 f5 f6 f7 (gc_la gc_L1) (gc_la gc_L2) (gc_la gc_L3) (gc_la gc_L4) (gc_la [nI k, a, b, 1, pick]) (gc_la []) (gc_la []) (gc_la []) (gc_la []) (gc_la []) (gc_la []) (gc_la []) (gc_la []) (gc_la []) (gc_la []) (gc_la []) a17 := by
  have ht : t ≤ 3 := by
    by_cases c : pick = 0
    · have := ht0 c
      omega
    · by_cases c1 : pick = 1
      · have := ht1 c1
        omega
      · have := ht2 c c1
        omega
  unfold wL_lawOf_230
  refine gl_run hk hk8 hf2 hfu (fun c pl fu oc ex pr l15 l16 a17 hF => ?_) (fun c pl fu oc ex pr l15 l16 a17 hF => ?_) (fun c c1 pl fu oc ex pr l15 l16 a17 hF => ?_)
  · have hw : gl_w b pick = b := if_pos c
    have hb : gl_hb pick = 2 := if_pos c
    rw [← hb, ← ht0 c] at hF
    have hF' : gz_Fin a b (gl_w b pick) k f t (gl_hb pick) oc ex pr a17 := by rw [hw]; exact hF
    exact gl_post hF' ht hk8 hp hov
  · have c0 : ¬ pick = 0 := by
      rw [c]
      decide
    have hw : gl_w b pick = 1 := by rw [gl_w, if_neg c0, if_pos c]
    have hb : gl_hb pick = 1 := if_neg c0
    have hF' : gz_Fin a b (gl_w b pick) k f t (gl_hb pick) oc ex pr a17 := by rw [hw, hb, ht1 c]; exact hF
    exact gl_post hF' ht hk8 hp hov
  · have hw : gl_w b pick = pick := by rw [gl_w, if_neg c, if_neg c1]
    have hb : gl_hb pick = 1 := if_neg c
    have hF' : gz_Fin a b (gl_w b pick) k f t (gl_hb pick) oc ex pr a17 := by rw [hw, hb, ht2 c c1]; exact hF
    exact gl_post hF' ht hk8 hp hov
theorem gl_207 {post : Int32 → St0 → Prop} {f3 f4 f5 f6 f7 : Int32} {a17 : Nat → Int32} {mc ms kc ks k f : Nat} (t : Nat) {a b pick z0 fuel : Int32} (hz : z0 = nI t) (hk : 1 ≤ k) (hk8 : k ≤ 8) (hf2 : f ≤ 250) (hfu : (fuel = nI f) ∨ (¬ 0 ≤ fuel ∧ f = 0) ∨ (0 ≤ fuel ∧ ¬ fuel ≤ 250 ∧ f = 250))
    (ht : t ≤ 3) (ht0 : pick = 0 → t = 3) (ht1 : pick = 1 → t = 2) (ht2 : ¬ pick = 0 → ¬ pick = 1 → t = 3) (hp : post 1 ()) :
    wL_lawOf_207 post mc ms a b pick fuel (nI k) (nI f) z0 kc ks 9 0 0 f3 f4 f5 f6 f7 (gc_la gc_L1) (gc_la gc_L2) (gc_la gc_L3) (gc_la gc_L4) (gc_la [nI k, a, b, 1, pick]) (gc_la []) (gc_la []) (gc_la []) (gc_la []) (gc_la []) (gc_la []) (gc_la []) (gc_la []) (gc_la []) (gc_la []) (gc_la []) a17 := by
  subst hz
  have e : (4 : Int32) * nI k + nI t = nI (4 * k + t) := by
    have e4 : (4 : Int32) * nI k = nI (4 * k) := pk_mul 4 k
    rw [e4, nI_add]
  exact nm_r e (pk_lt f (4 * k + t) (fun q => gl_230 hk hk8 hf2 hfu ht0 ht1 ht2 hp (Or.inl ⟨rfl, q⟩)) (fun q => gl_230 hk hk8 hf2 hfu ht0 ht1 ht2 hp (Or.inr ⟨rfl, q⟩)))
theorem gl_init {post : St2 → Prop} {f0 f1 f2 f3 f4 f5 f6 f7 : Int32} (hp : post (f0, f1, f2, f3, f4, f5, f6, f7, gc_la [], gc_la [], gc_la [], gc_la [], gc_la [], gc_la [], gc_la [], gc_la [], gc_la [], gc_la [], gc_la [], gc_la [], gc_la [], gc_la [], gc_la [], gc_la [], gc_la [])) :
    wpX_init post 17 1170 (f0, f1, f2, f3, f4, f5, f6, f7) := by
  rw [← gc_la0] at hp
  exact ⟨by decide, by decide, by decide, by decide, by decide, by decide, by decide, by decide, by decide, by decide, by decide, by decide, by decide, by decide, by decide, by decide, by decide, by decide, by decide, by decide, by decide, by decide, by decide, by decide, by decide, by decide, by decide, by decide, by decide, by decide, by decide, by decide, by decide, by decide, hp⟩
theorem gl_33 {post : Int32 → St0 → Prop} {k f : Nat} {a b pick fuel : Int32} (hk : 1 ≤ k) (hk8 : k ≤ 8) (hf2 : f ≤ 250) (hfu : (fuel = nI f) ∨ (¬ 0 ≤ fuel ∧ f = 0) ∨ (0 ≤ fuel ∧ ¬ fuel ≤ 250 ∧ f = 250)) (hp : post 1 ()) :
    wL_lawOf_33 post 414 6624 a b pick fuel (nI k) (nI f) 0 0 := by
  refine ⟨by decide, by decide, 17, 1170, by decide, by decide, gl_init ?_⟩
  refine gv_start (l5 := []) [nI k] rfl rfl rfl ?_
  refine gv_start (l5 := [nI k]) [nI k, a] rfl rfl rfl ?_
  refine gv_start (l5 := [nI k, a]) [nI k, a, b] rfl rfl rfl ?_
  refine gv_start (l5 := [nI k, a, b]) [nI k, a, b, 1] rfl rfl rfl ?_
  refine gv_start (l5 := [nI k, a, b, 1]) [nI k, a, b, 1, pick] rfl rfl rfl ?_
  refine gv_emit (s := (0, [], [], [], [])) (s' := (1, [6], [1], [0], [0])) (gc_is5_ok (by decide +kernel)) ?_
  refine gv_emit (s := (1, [6], [1], [0], [0])) (s' := (2, [6, 2], [1, 1], [0, 1], [0, 2])) (gc_is5_ok (by decide +kernel)) ?_
  refine gv_emit (s := (2, [6, 2], [1, 1], [0, 1], [0, 2])) (s' := (3, [6, 2, 3], [1, 1, 0], [0, 1, 0], [0, 2, 3])) (gc_is5_ok (by decide +kernel)) ?_
  refine gv_emit (s := (3, [6, 2, 3], [1, 1, 0], [0, 1, 0], [0, 2, 3])) (s' := (4, [6, 2, 3, 8], [1, 1, 0, 0], [0, 1, 0, 0], [0, 2, 3, 0])) (gc_is5_ok (by decide +kernel)) ?_
  refine gv_emit (s := (4, [6, 2, 3, 8], [1, 1, 0, 0], [0, 1, 0, 0], [0, 2, 3, 0])) (s' := (5, [6, 2, 3, 8, 9], [1, 1, 0, 0, 4], [0, 1, 0, 0, 7], [0, 2, 3, 0, 2])) (gc_is5_ok (by decide +kernel)) ?_
  refine gv_emit (s := (5, [6, 2, 3, 8, 9], [1, 1, 0, 0, 4], [0, 1, 0, 0, 7], [0, 2, 3, 0, 2])) (s' := (6, [6, 2, 3, 8, 9, 6], [1, 1, 0, 0, 4, 4], [0, 1, 0, 0, 7, 0], [0, 2, 3, 0, 2, 0])) (gc_is5_ok (by decide +kernel)) ?_
  refine gv_emit (s := (6, [6, 2, 3, 8, 9, 6], [1, 1, 0, 0, 4, 4], [0, 1, 0, 0, 7, 0], [0, 2, 3, 0, 2, 0])) (s' := (7, [6, 2, 3, 8, 9, 6, 10], [1, 1, 0, 0, 4, 4, 0], [0, 1, 0, 0, 7, 0, 0], [0, 2, 3, 0, 2, 0, 0])) (gc_is5_ok (by decide +kernel)) ?_
  refine gv_emit (s := (7, [6, 2, 3, 8, 9, 6, 10], [1, 1, 0, 0, 4, 4, 0], [0, 1, 0, 0, 7, 0, 0], [0, 2, 3, 0, 2, 0, 0])) (s' := (8, [6, 2, 3, 8, 9, 6, 10, 6], [1, 1, 0, 0, 4, 4, 0, 2], [0, 1, 0, 0, 7, 0, 0, 0], [0, 2, 3, 0, 2, 0, 0, 0])) (gc_is5_ok (by decide +kernel)) ?_
  refine gv_emit (s := (8, [6, 2, 3, 8, 9, 6, 10, 6], [1, 1, 0, 0, 4, 4, 0, 2], [0, 1, 0, 0, 7, 0, 0, 0], [0, 2, 3, 0, 2, 0, 0, 0])) (s' := (9, gc_L1, gc_L2, gc_L3, gc_L4)) (gc_is5_ok (by decide +kernel)) ?_
  refine br_t rfl (br_c (fun c => gl_207 3 rfl hk hk8 hf2 hfu (by decide) (fun _ => rfl) (fun c1 => absurd (c.symm.trans c1) (by decide)) (fun _ _ => rfl) hp) (fun c => br_c (fun c1 => gl_207 2 rfl hk hk8 hf2 hfu (by decide) (fun q => absurd q c) (fun _ => rfl) (fun _ q => absurd c1 q) hp) (fun c1 => gl_207 3 rfl hk hk8 hf2 hfu (by decide) (fun _ => rfl) (fun q => absurd q c1) (fun _ _ => rfl) hp)))
theorem gl_lawOf {post : Int32 → St0 → Prop} (times a b pick fuel : Int32) (hp : post 1 ()) : wpL_lawOf post 414 6624 () times a b pick fuel := by
  obtain ⟨j, hj, ej⟩ := pk_andE times (m := 7) 3 (by decide)
  have ek : 1 + (times &&& 7) = nI (j + 1) := by
    rw [ej, Int32.add_comm, nI_1]
  refine nm_r ek (br_c (fun c => br_c (fun c2 => ?_) (fun c2 => ?_)) (fun c => ?_))
  · have cn : ¬ fuel < 0 := by
      rw [Int32.not_lt]
      exact c
    obtain ⟨f, hf, e⟩ := nI_of2 (M := 250) (n := 250) (by decide) cn c2
    rw [e]
    exact gl_33 (by omega) (by omega) hf (Or.inl rfl) hp
  · exact gl_33 (f := 250) (by omega) (by omega) (by decide) (Or.inr (Or.inr ⟨c, c2, rfl⟩)) hp
  · exact gl_33 (f := 0) (by omega) (by omega) (by decide) (Or.inr (Or.inl ⟨c, rfl⟩)) hp
theorem gl_cell {post : Int32 → Prop} {L : Nat} {xs : Nat → Int32} {u : St0} (hL : L ≤ 5) (i : Nat) (hi : i < 5) (H : ∀ r, post r) : wpL_cellAt post L xs u (nI i) :=
  pk_le L i (fun _ => H _) (fun z => ⟨vp_in_nI z (by omega), H _⟩)
theorem i_vc (xs : Nat → Int32) (L : Nat) (hL : L ≤ 5) : wpL_law (fun r => r = 1) L xs := by
  unfold wpL_law
  exact gl_cell hL 0 (by decide) (fun r1 => gl_cell hL 1 (by decide) (fun r2 => gl_cell hL 2 (by decide) (fun r3 => gl_cell hL 3 (by decide) (fun r4 => gl_cell hL 4 (by decide) (fun r5 => ⟨414, 6624, by decide, by decide, gl_lawOf r1 r2 r3 r4 r5 rfl⟩)))))
end
