section
/-! The methods computed in plain Lean: a state's arrays are lists of nine ints, cg_f reads one as the predicates' functions; each loop is a function with fuel into Option. -/
def cg_f (l : List Int32) : Nat → Int32 := fun i => l.getD i 0
def cg_b (x : Int32) (l : List Int32) : Bool := decide (¬ (x < 0 ∨ 9 ≤ x.toNatClampNeg)) && decide (l.length = 9)
def cg_t (tc p : Int32) : Bool := decide (¬ p < 0) && decide (¬ tc ≤ p)
def cg_k {α : Type} (b : Bool) (o : Option α) : Option α := match b with
  | true => o
  | false => none
theorem cg_k_s {α : Type} {b : Bool} {o : Option α} {r : α} (h : cg_k b o = some r) : b = true ∧ o = some r := by
  cases b with
  | true => exact ⟨rfl, h⟩
  | false => exact absurd h (fun z => nomatch z)
theorem cg_b_s {α β : Type} {o : Option α} {f : α → Option β} {r : β} (h : o.bind f = some r) : ∃ a, o = some a ∧ f a = some r := by
  cases o with
  | none => exact absurd h (fun z => nomatch z)
  | some a => exact ⟨a, rfl, h⟩
theorem cg_n_s {α : Type} {r : α} {P : Prop} (h : (none : Option α) = some r) : P := nomatch h
theorem cg_in {x : Int32} {l : List Int32} (h : cg_b x l = true) : vp_in x 9 := by
  unfold cg_b at h
  rw [Bool.and_eq_true] at h
  have z : ¬ (x < 0 ∨ 9 ≤ x.toNatClampNeg) := of_decide_eq_true h.1
  exact z
theorem cg_up {x : Int32} {l : List Int32} (h : cg_b x l = true) (v : Int32) : upd (cg_f l) x.toNatClampNeg v = cg_f (l.set x.toNatClampNeg v) := by
  have hi : vp_in x 9 := cg_in h
  unfold cg_b at h
  rw [Bool.and_eq_true] at h
  have hl : l.length = 9 := of_decide_eq_true h.2
  have hx : x.toNatClampNeg < l.length := by
    rcases Nat.lt_or_ge x.toNatClampNeg 9 with z | z
    · omega
    · exact absurd (Or.inr z) hi
  funext j
  by_cases e : j = x.toNatClampNeg
  · rw [e, pk_us]
    show v = (l.set x.toNatClampNeg v).getD x.toNatClampNeg 0
    rw [List.getD_eq_getElem?_getD, List.getElem?_set_self hx]
    rfl
  · rw [pk_un e]
    show l.getD j 0 = (l.set x.toNatClampNeg v).getD j 0
    rw [List.getD_eq_getElem?_getD, List.getD_eq_getElem?_getD, List.getElem?_set_ne (fun z => e z.symm)]

def cg_imm (tc : Int32) (l2 : List Int32) (x2 : Int32) : Nat → Int32 → Int32 → Option Int32
  | 0 => fun _ _ => none
  | n + 1 => fun x3 x4 => if tc ≤ x4 then some x3 else if ((x2 >>> (x4 &&& 31)) &&& 1) = 0 then cg_imm tc l2 x2 n x3 (x4 + 1) else cg_k (cg_b x4 l2) (cg_imm tc l2 x2 n (x3 &&& ((cg_f l2 x4.toNatClampNeg) ^^^ (-1))) (x4 + 1))
def cg_bits (x1 : Int32) : Nat → Int32 → Int32 → Option Int32
  | 0 => fun _ _ => none
  | n + 1 => fun x2 x3 => if 9 ≤ x3 then some x2 else cg_bits x1 n (x2 + ((x1 >>> (x3 &&& 31)) &&& 1)) (x3 + 1)
def cg_sup (tc : Int32) (l1 l2 : List Int32) : Nat → Int32 → Int32 → Option Int32
  | 0 => fun _ _ => none
  | n + 1 => fun x1 x2 => if tc ≤ x2 then some x1 else cg_k (cg_b x2 l2) ((cg_imm tc l2 (cg_f l2 x2.toNatClampNeg) 20 (cg_f l2 x2.toNatClampNeg) 0).bind fun r3 => cg_k (cg_b x2 l1) ((cg_bits ((cg_f l1 x2.toNatClampNeg) &&& (r3 ^^^ (-1))) 20 0 0).bind fun r5 => cg_sup tc l1 l2 n (x1 + r5) (x2 + 1)))
def cg_add (tc x1 x3 : Int32) : Nat → Int32 → List Int32 → Option (List Int32)
  | 0 => fun _ _ => none
  | n + 1 => fun x4 l2 => if tc ≤ x4 then some l2 else if x4 = x1 then cg_k (cg_b x4 l2) (cg_add tc x1 x3 n (x4 + 1) (l2.set x4.toNatClampNeg ((cg_f l2 x4.toNatClampNeg) ||| x3))) else cg_k (cg_b x4 l2) (if (((cg_f l2 x4.toNatClampNeg) >>> (x1 &&& 31)) &&& 1) = 0 then cg_add tc x1 x3 n (x4 + 1) l2 else cg_add tc x1 x3 n (x4 + 1) (l2.set x4.toNatClampNeg ((cg_f l2 x4.toNatClampNeg) ||| x3)))
def cg_addO (tc : Int32) (l1 l2 : List Int32) (p0 p1 : Int32) : Option (Int32 × List Int32 × List Int32) :=
  cg_k (cg_t tc p0) (cg_k (cg_t tc p1) (if p0 = p1 then some (-4, l1, l2) else cg_k (cg_b p1 l2) (if (((cg_f l2 p1.toNatClampNeg) >>> (p0 &&& 31)) &&& 1) = 0 then cg_k (cg_b p0 l1) (if (((cg_f l1 p0.toNatClampNeg) >>> (p1 &&& 31)) &&& 1) = 0 then (cg_add tc p0 ((cg_f l2 p1.toNatClampNeg) ||| ((1 : Int32) <<< (p1 &&& 31))) 20 0 l2).bind fun m2 => some (1, l1.set p0.toNatClampNeg ((cg_f l1 p0.toNatClampNeg) ||| ((1 : Int32) <<< (p1 &&& 31))), m2) else some (0, l1, l2)) else some (-4, l1, l2))))
def cg_aft (tc : Int32) (l2 : List Int32) (p0 p1 : Int32) : Option Int32 :=
  cg_k (cg_t tc p0) (cg_k (cg_t tc p1) (cg_k (cg_b p0 l2) (if (((cg_f l2 p0.toNatClampNeg) >>> (p1 &&& 31)) &&& 1) = 0 then some 0 else some 1)))
def cg_c40 (tc x1 : Int32) : Nat → Int32 → List Int32 → Option (List Int32)
  | 0 => fun _ _ => none
  | n + 1 => fun x2 l2 => if tc ≤ x2 then some l2 else cg_k (cg_b x2 l2) (if (((cg_f l2 x2.toNatClampNeg) >>> (x1 &&& 31)) &&& 1) = 0 then cg_c40 tc x1 n (x2 + 1) l2 else cg_k (cg_b x1 l2) (cg_c40 tc x1 n (x2 + 1) (l2.set x2.toNatClampNeg ((cg_f l2 x2.toNatClampNeg) ||| (cg_f l2 x1.toNatClampNeg)))))
def cg_c30 (tc : Int32) : Nat → Int32 → List Int32 → Option (List Int32)
  | 0 => fun _ _ => none
  | n + 1 => fun x1 l2 => if tc ≤ x1 then some l2 else (cg_c40 tc x1 20 0 l2).bind fun m => cg_c30 tc n (x1 + 1) m
def cg_c2 (tc : Int32) (l1 : List Int32) : Nat → Int32 → List Int32 → Option (List Int32)
  | 0 => fun _ _ => none
  | n + 1 => fun x1 l2 => if tc ≤ x1 then cg_c30 tc 20 0 l2 else cg_k (cg_b x1 l1) (cg_k (cg_b x1 l2) (cg_c2 tc l1 n (x1 + 1) (l2.set x1.toNatClampNeg (cg_f l1 x1.toNatClampNeg))))
def cg_ll (tc : Int32) (l4 : List Int32) (x1 : Int32) : Nat → Int32 → Int32 → Option Int32
  | 0 => fun _ _ => none
  | n + 1 => fun x2 x3 => if tc ≤ x3 then some x2 else if ((x1 >>> (x3 &&& 31)) &&& 1) = 0 then cg_ll tc l4 x1 n x2 (x3 + 1) else cg_k (cg_b x3 l4) (if (cg_f l4 x3.toNatClampNeg) = 0 then some (-1) else cg_ll tc l4 x1 n (x2 ||| ((1 : Int32) <<< ((cg_f l4 x3.toNatClampNeg) &&& 31))) (x3 + 1))
def cg_l65 (tc pt x1 : Int32) (l3 l4 : List Int32) : Nat → Int32 → Int32 → Int32 → Option (List Int32)
  | 0 => fun _ _ _ => none
  | n + 1 => fun x2 x3 x4 => if tc ≤ x4 then (if x2 < 0 then some l4 else cg_k (cg_b x2 l4) (some (l4.set x2.toNatClampNeg x1.toInt8.toInt32))) else if ((pt >>> (x4 &&& 31)) &&& 1) = 0 then cg_l65 tc pt x1 l3 l4 n x2 x3 (x4 + 1) else cg_k (cg_b x4 l4) (if (cg_f l4 x4.toNatClampNeg) = 0 then cg_k (cg_b x4 l3) ((cg_ll tc l4 (cg_f l3 x4.toNatClampNeg) 20 0 0).bind fun r => if r < 0 then cg_l65 tc pt x1 l3 l4 n x2 x3 (x4 + 1) else if x2 < 0 then cg_l65 tc pt x1 l3 l4 n x4 r (x4 + 1) else if r < x3 then cg_l65 tc pt x1 l3 l4 n x4 r (x4 + 1) else cg_l65 tc pt x1 l3 l4 n x2 x3 (x4 + 1)) else cg_l65 tc pt x1 l3 l4 n x2 x3 (x4 + 1))
def cg_l52 (tc pt : Int32) (l3 : List Int32) : Nat → Int32 → List Int32 → Option (List Int32)
  | 0 => fun _ _ => none
  | n + 1 => fun x1 l4 => if 9 < x1 then some l4 else (cg_l65 tc pt x1 l3 l4 20 (-1) 0 0).bind fun m => cg_l52 tc pt l3 n (x1 + 1) m
def cg_l2 (tc pt : Int32) (l2 : List Int32) : Nat → Int32 → List Int32 → List Int32 → Option (List Int32 × List Int32)
  | 0 => fun _ _ _ => none
  | n + 1 => fun x1 l3 l4 => if tc ≤ x1 then (cg_l52 tc pt l3 20 1 l4).bind fun m => some (l3, m) else cg_k (cg_b x1 l4) (cg_k (cg_b x1 l2) ((cg_imm tc l2 ((cg_f l2 x1.toNatClampNeg) &&& pt) 20 ((cg_f l2 x1.toNatClampNeg) &&& pt) 0).bind fun r => cg_k (cg_b x1 l3) (cg_l2 tc pt l2 n (x1 + 1) (l3.set x1.toNatClampNeg (r &&& pt)) (l4.set x1.toNatClampNeg 0))))
def cg_rdy (tc : Int32) (l2 : List Int32) (x1 x2 : Int32) : Nat → Int32 → Option Int32
  | 0 => fun _ => none
  | n + 1 => fun x3 => if tc ≤ x3 then some 1 else if ((x2 >>> (x3 &&& 31)) &&& 1) = 0 then cg_rdy tc l2 x1 x2 n (x3 + 1) else cg_k (cg_b x3 l2) (if (((cg_f l2 x3.toNatClampNeg) >>> (x1 &&& 31)) &&& 1) = 0 then cg_rdy tc l2 x1 x2 n (x3 + 1) else some 0)
def cg_br (tc : Int32) (l2 l4 : List Int32) (x2 x3 : Int32) : Nat → Int32 → Int32 → Option Int32
  | 0 => fun _ _ => none
  | n + 1 => fun x4 x5 => if tc ≤ x5 then some x4 else if ((x3 >>> (x5 &&& 31)) &&& 1) = 0 then cg_br tc l2 l4 x2 x3 n x4 (x5 + 1) else if ((x2 >>> (x5 &&& 31)) &&& 1) = 0 then (cg_rdy tc l2 x5 x3 20 0).bind fun r => (if r = 0 then cg_br tc l2 l4 x2 x3 n x4 (x5 + 1) else if x4 < 0 then cg_br tc l2 l4 x2 x3 n x5 (x5 + 1) else cg_k (cg_b x5 l4) (cg_k (cg_b x4 l4) (if (cg_f l4 x5.toNatClampNeg) ≤ (cg_f l4 x4.toNatClampNeg) then cg_br tc l2 l4 x2 x3 n x4 (x5 + 1) else cg_br tc l2 l4 x2 x3 n x5 (x5 + 1)))) else cg_br tc l2 l4 x2 x3 n x4 (x5 + 1)
def cg_n24 (tc pt : Int32) (l2 l4 : List Int32) (x1 x2 : Int32) : Nat → Int32 → Int32 → Option Int32
  | 0 => fun _ _ => none
  | n + 1 => fun x4 x5 => if x1 ≤ x5 then some (x2 ||| x4) else (cg_br tc l2 l4 x4 (pt &&& (x2 ^^^ (-1))) 20 (-1) 0).bind fun r => if r < 0 then cg_n24 tc pt l2 l4 x1 x2 n x4 (x5 + 1) else cg_n24 tc pt l2 l4 x1 x2 n (x4 ||| ((1 : Int32) <<< (r &&& 31))) (x5 + 1)
def cg_n4 (tc pt : Int32) (l2 l4 : List Int32) (x1 : Int32) : Nat → Int32 → Int32 → Option Int32
  | 0 => fun _ _ => none
  | n + 1 => fun x2 x3 => if x2 = pt then some x3 else if 9 ≤ x3 then some x3 else (cg_n24 tc pt l2 l4 x1 x2 20 0 0).bind fun y => cg_n4 tc pt l2 l4 x1 n y (x3 + 1)
def cg_wo1 (tc pt : Int32) (l1 l2 l3 l4 : List Int32) (p0 : Int32) : Option (Int32 × List Int32 × List Int32 × List Int32 × List Int32) :=
  (cg_c2 tc (l1.set p0.toNatClampNeg 0) 20 0 l2).bind fun m2 => (cg_l2 tc pt m2 20 0 l3 l4).bind fun q => (cg_n4 tc pt m2 q.2 2 20 0 0).bind fun r => cg_k (cg_b p0 (l1.set p0.toNatClampNeg 0)) ((cg_c2 tc ((l1.set p0.toNatClampNeg 0).set p0.toNatClampNeg (cg_f l1 p0.toNatClampNeg)) 20 0 m2).bind fun k2 => some (r, (l1.set p0.toNatClampNeg 0).set p0.toNatClampNeg (cg_f l1 p0.toNatClampNeg), k2, q.1, q.2))
def cg_r58 (tc x2 : Int32) : Nat → Int32 → List Int32 → Option (List Int32)
  | 0 => fun _ _ => none
  | n + 1 => fun x3 l1 => if tc ≤ x3 then some l1 else cg_k (cg_b x3 l1) (cg_r58 tc x2 n (x3 + 1) (l1.set x3.toNatClampNeg (((cg_f l1 x3.toNatClampNeg) &&& x2) ||| (((cg_f l1 x3.toNatClampNeg) >>> ((1 : Int32) &&& 31)) &&& (x2 ^^^ (-1))))))
def cg_r22 (tc x1 : Int32) : Nat → Int32 → List Int32 → Option (List Int32)
  | 0 => fun _ _ => none
  | n + 1 => fun x2 l1 => if tc ≤ x2 then cg_r58 tc (((1 : Int32) <<< (x1 &&& 31)) - 1) 20 0 l1 else cg_k (cg_b (x2 + 1) l1) (cg_k (cg_b x2 l1) (cg_r22 tc x1 n (x2 + 1) (l1.set x2.toNatClampNeg (cg_f l1 (x2 + 1).toNatClampNeg))))
def cg_rem (tc : Int32) (l1 l2 : List Int32) (p0 : Int32) : Option (List Int32 × List Int32) :=
  cg_k (cg_t tc p0) ((cg_r22 (tc - 1) p0 20 p0 l1).bind fun m1 => (cg_c2 (tc - 1) m1 20 0 l2).bind fun m2 => some (m1, m2))
def cg_tree (tc : Int32) (l2 : List Int32) : Nat → Int32 → Option Int32
  | 0 => fun _ => none
  | n + 1 => fun x1 => if tc ≤ x1 then some 1 else cg_k (cg_b x1 l2) ((cg_imm tc l2 (cg_f l2 x1.toNatClampNeg) 20 (cg_f l2 x1.toNatClampNeg) 0).bind fun r => if (r &&& (r - 1)) = 0 then cg_tree tc l2 n (x1 + 1) else some 0)
def cg_h29 (tc : Int32) (l2 : List Int32) (x2 : Int32) : Nat → Int32 → Int32 → Option Int32
  | 0 => fun _ _ => none
  | n + 1 => fun x5 x6 => if tc ≤ x6 then some x5 else if ((x2 >>> (x6 &&& 31)) &&& 1) = 0 then cg_h29 tc l2 x2 n x5 (x6 + 1) else cg_k (cg_b x6 l2) (if ((cg_f l2 x6.toNatClampNeg) &&& x2) = 0 then cg_h29 tc l2 x2 n x5 (x6 + 1) else cg_h29 tc l2 x2 n (x5 ||| ((1 : Int32) <<< (x6 &&& 31))) (x6 + 1))
def cg_h12 (tc : Int32) (l2 : List Int32) : Nat → Int32 → Int32 → Int32 → Option Int32
  | 0 => fun _ _ _ => none
  | n + 1 => fun x2 x3 x4 => if 9 ≤ x4 then some x3 else if x2 = 0 then some x3 else (cg_h29 tc l2 x2 20 0 0).bind fun y => cg_h12 tc l2 n y (x3 + 1) (x4 + 1)
def cg_lh (tc : Int32) (l2 : List Int32) : Nat → Int32 → List Int32 → Option (List Int32)
  | 0 => fun _ _ => none
  | n + 1 => fun x1 l4 => if tc ≤ x1 then some l4 else cg_k (cg_b x1 l2) ((cg_h12 tc l2 20 (cg_f l2 x1.toNatClampNeg) 1 0).bind fun r => cg_k (cg_b x1 l4) (cg_lh tc l2 n (x1 + 1) (l4.set x1.toNatClampNeg r.toInt8.toInt32)))
def cg_sh2 (tc pt : Int32) (l2 l3 l4 : List Int32) : Option (Int32 × List Int32 × List Int32) :=
  (cg_l2 tc pt l2 20 0 l3 l4).bind fun q => (cg_n4 tc pt l2 q.2 2 20 0 0).bind fun r => some (r, q.1, q.2)
def cg_sh3 (tc pt : Int32) (l2 l4 : List Int32) : Option (Int32 × List Int32) :=
  (cg_tree tc l2 20 0).bind fun t => cg_k (decide (¬ t = 0)) ((cg_lh tc l2 20 0 l4).bind fun m => (cg_n4 tc pt l2 m 3 20 0 0).bind fun r => some (r, m))
end
section
/-! What the methods compute, each loop and method once: if the plain function gives an answer, the predicate holds of every post that holds of that answer. -/
theorem cg_isT {post : Int32 → Prop} {tc pt : Int32} {a1 a2 a3 a4 : Nat → Int32} {p : Int32} (h1 : cg_t tc p = true → post 1) (h0 : cg_t tc p = false → post 0) : wpX_isTask post (tc, pt, a1, a2, a3, a4) p := by
  have n1 : p < 0 → cg_t tc p = false := fun c => by unfold cg_t; rw [decide_eq_false (fun z => z c)]; rfl
  have n2 : tc ≤ p → cg_t tc p = false := fun c => by unfold cg_t; rw [decide_eq_false (p := ¬ tc ≤ p) (fun z => z c), Bool.and_false]
  have n3 : ¬ p < 0 → ¬ tc ≤ p → cg_t tc p = true := fun c d => by unfold cg_t; rw [decide_eq_true c, decide_eq_true d]; rfl
  exact br_c (fun c => h0 (n1 c)) (fun c => br_c (fun d => h0 (n2 d)) (fun d => h1 (n3 c d)))
theorem cg_isT1 {A B : Prop} {tc pt : Int32} {a1 a2 a3 a4 : Nat → Int32} {p : Int32} (h : cg_t tc p = true) (hb : B) : wpX_isTask (fun r => (r = 0 → A) ∧ (¬ r = 0 → B)) (tc, pt, a1, a2, a3, a4) p :=
  cg_isT (fun _ => br_f (by decide) hb) (fun z => absurd (h.symm.trans z) (by decide))
theorem cg_isT0 {A B : Prop} {tc pt : Int32} {a1 a2 a3 a4 : Nat → Int32} {p : Int32} (h : cg_t tc p = false) (ha : A) : wpX_isTask (fun r => (r = 0 → A) ∧ (¬ r = 0 → B)) (tc, pt, a1, a2, a3, a4) p :=
  cg_isT (fun z => absurd (h.symm.trans z) (by decide)) (fun _ => br_t rfl ha)

theorem cg_imm_s {post : Int32 → Prop} {x2 tc pt : Int32} {a1 a3 a4 : Nat → Int32} {l2 : List Int32} {r : Int32} (hp : post r) : ∀ (n : Nat) (x3 x4 : Int32), cg_imm tc l2 x2 n x3 x4 = some r → wX_immediate_5 post x2 tc pt a1 (cg_f l2) a3 a4 n x3 x4 := by
  intro n
  induction n with
  | zero => exact fun x3 x4 h => cg_n_s h
  | succ n ih =>
    intro x3 x4 h
    rw [cg_imm] at h
    dsimp only at h
    refine br_c (fun c => ?_) (fun c => ?_)
    · rw [if_pos c] at h
      cases h
      exact hp
    · rw [if_neg c] at h
      refine br_c (fun d => ?_) (fun d => ?_)
      · rw [if_pos d] at h
        exact nm_e (ih _ _ h)
      · rw [if_neg d] at h
        obtain ⟨b, h⟩ := cg_k_s h
        exact ⟨cg_in b, nm_e (nm_e (ih _ _ h))⟩
theorem cg_imm_w {post : Int32 → Prop} {tc pt : Int32} {a1 a3 a4 : Nat → Int32} {l2 : List Int32} {p0 p1 r : Int32} (h : cg_imm tc l2 p1 20 p1 0 = some r) (hp : post r) : wpX_immediate post (tc, pt, a1, cg_f l2, a3, a4) p0 p1 :=
  Exists.intro 20 (cg_imm_s hp 20 _ _ h)

theorem cg_bits_s {post : Int32 → Prop} {x1 tc pt : Int32} {a1 a2 a3 a4 : Nat → Int32} {r : Int32} (hp : post r) : ∀ (n : Nat) (x2 x3 : Int32), cg_bits x1 n x2 x3 = some r → wX_bitsIn_4 post x1 tc pt a1 a2 a3 a4 n x2 x3 := by
  intro n
  induction n with
  | zero => exact fun x2 x3 h => cg_n_s h
  | succ n ih =>
    intro x2 x3 h
    rw [cg_bits] at h
    dsimp only at h
    refine br_c (fun c => ?_) (fun c => ?_)
    · rw [if_pos c] at h
      cases h
      exact hp
    · rw [if_neg c] at h
      exact nm_e (nm_e (ih _ _ h))
theorem cg_bits_w {post : Int32 → Prop} {tc pt : Int32} {a1 a2 a3 a4 : Nat → Int32} {p0 r : Int32} (h : cg_bits p0 20 0 0 = some r) (hp : post r) : wpX_bitsIn post (tc, pt, a1, a2, a3, a4) p0 :=
  Exists.intro 20 (cg_bits_s hp 20 _ _ h)

theorem cg_sup_s {post : Int32 → Prop} {tc pt : Int32} {a3 a4 : Nat → Int32} {l1 l2 : List Int32} {r : Int32} (hp : post r) : ∀ (n : Nat) (x1 x2 : Int32), cg_sup tc l1 l2 n x1 x2 = some r → wX_superfluous_4 post tc pt (cg_f l1) (cg_f l2) a3 a4 n x1 x2 := by
  intro n
  induction n with
  | zero => exact fun x1 x2 h => cg_n_s h
  | succ n ih =>
    intro x1 x2 h
    rw [cg_sup] at h
    dsimp only at h
    refine br_c (fun c => ?_) (fun c => ?_)
    · rw [if_pos c] at h
      cases h
      exact hp
    · rw [if_neg c] at h
      obtain ⟨b, h⟩ := cg_k_s h
      obtain ⟨r3, e3, h⟩ := cg_b_s h
      obtain ⟨b1, h⟩ := cg_k_s h
      obtain ⟨r5, e5, h⟩ := cg_b_s h
      refine ⟨cg_in b, cg_imm_w e3 ⟨cg_in b, cg_bits_w e5 ?_⟩⟩
      exact nm_e (nm_e (ih _ _ h))
theorem cg_sup_w {post : Int32 → Prop} {tc pt : Int32} {a3 a4 : Nat → Int32} {l1 l2 : List Int32} {r : Int32} (h : cg_sup tc l1 l2 20 0 0 = some r) (hp : post r) : wpX_superfluous post (tc, pt, cg_f l1, cg_f l2, a3, a4) :=
  Exists.intro 20 (cg_sup_s hp 20 _ _ h)

theorem cg_109 {post : Int32 → St2 → Prop} {J : Int32 → (Nat → Int32) → (Nat → Int32) → (Nat → Int32) → (Nat → Int32) → Prop} {x1 x3 x4 tc pt : Int32} {a1 a3 a4 : Nat → Int32} {l2 : List Int32} (b : cg_b x4 l2 = true) (h : J (x4 + 1) a1 (cg_f (l2.set x4.toNatClampNeg ((cg_f l2 x4.toNatClampNeg) ||| x3))) a3 a4) : wX_addOrder_109 post J x1 x3 x4 tc pt a1 (cg_f l2) a3 a4 :=
  And.intro (cg_in b) (And.intro (cg_in b) (nm_r (cg_up b _) (nm_e h)))
theorem cg_add_s {post : Int32 → St2 → Prop} {x1 x3 tc pt : Int32} {a1 a3 a4 : Nat → Int32} {m2 : List Int32} (hp : post 1 (tc, pt, a1, cg_f m2, a3, a4)) : ∀ (n : Nat) (x4 : Int32) (l2 : List Int32), cg_add tc x1 x3 n x4 l2 = some m2 → wX_addOrder_80 post x1 x3 tc pt n x4 a1 (cg_f l2) a3 a4 := by
  intro n
  induction n with
  | zero => exact fun x4 l2 h => cg_n_s h
  | succ n ih =>
    intro x4 l2 h
    rw [cg_add] at h
    dsimp only at h
    refine br_c (fun c => ?_) (fun c => ?_)
    · rw [if_pos c] at h
      cases h
      exact hp
    · rw [if_neg c] at h
      refine br_c (fun d => ?_) (fun d => ?_)
      · rw [if_pos d] at h
        obtain ⟨b, h⟩ := cg_k_s h
        exact cg_109 b (ih _ _ h)
      · rw [if_neg d] at h
        obtain ⟨b, h⟩ := cg_k_s h
        refine ⟨cg_in b, br_c (fun e => ?_) (fun e => ?_)⟩
        · rw [if_pos e] at h
          exact nm_e (ih _ _ h)
        · rw [if_neg e] at h
          exact cg_109 b (ih _ _ h)
theorem cg_add_w {post : Int32 → St2 → Prop} {tc pt : Int32} {a3 a4 : Nat → Int32} {l1 l2 m1 m2 : List Int32} {p0 p1 r : Int32} (h : cg_addO tc l1 l2 p0 p1 = some (r, m1, m2)) (hp : post r (tc, pt, cg_f m1, cg_f m2, a3, a4)) : wpX_addOrder post (tc, pt, cg_f l1, cg_f l2, a3, a4) p0 p1 := by
  unfold cg_addO at h
  obtain ⟨t0, h⟩ := cg_k_s h
  obtain ⟨t1, h⟩ := cg_k_s h
  unfold wpX_addOrder
  dsimp only
  refine cg_isT1 t0 (cg_isT1 t1 (br_c (fun c => ?_) (fun c => ?_)))
  · rw [if_pos c] at h
    cases h
    exact hp
  · rw [if_neg c] at h
    obtain ⟨b1, h⟩ := cg_k_s h
    refine ⟨cg_in b1, br_c (fun d => ?_) (fun d => ?_)⟩
    · rw [if_pos d] at h
      obtain ⟨b0, h⟩ := cg_k_s h
      refine ⟨cg_in b0, br_c (fun e => ?_) (fun e => ?_)⟩
      · rw [if_pos e] at h
        obtain ⟨k2, e2, h⟩ := cg_b_s h
        cases h
        exact ⟨cg_in b0, cg_in b0, nm_r (cg_up b0 _) ⟨cg_in b1, nm_e ⟨20, cg_add_s hp 20 _ _ e2⟩⟩⟩
      · rw [if_neg e] at h
        cases h
        exact hp
    · rw [if_neg d] at h
      cases h
      exact hp
theorem cg_add_bad {post : Int32 → St2 → Prop} {tc pt : Int32} {a1 a2 a3 a4 : Nat → Int32} {p0 p1 : Int32} (h : cg_t tc p0 = true → cg_t tc p1 = false) (hp : post (-1) (tc, pt, a1, a2, a3, a4)) : wpX_addOrder post (tc, pt, a1, a2, a3, a4) p0 p1 := by
  unfold wpX_addOrder
  dsimp only
  cases t : cg_t tc p0 with
  | false => exact cg_isT0 t hp
  | true => exact cg_isT1 t (cg_isT0 (h t) hp)
theorem cg_aft_w {post : Int32 → Prop} {tc pt : Int32} {a1 a3 a4 : Nat → Int32} {l2 : List Int32} {p0 p1 r : Int32} (h : cg_aft tc l2 p0 p1 = some r) (hp : post r) : wpX_after post (tc, pt, a1, cg_f l2, a3, a4) p0 p1 := by
  unfold cg_aft at h
  obtain ⟨t0, h⟩ := cg_k_s h
  obtain ⟨t1, h⟩ := cg_k_s h
  obtain ⟨b, h⟩ := cg_k_s h
  unfold wpX_after
  dsimp only
  refine cg_isT1 t0 (cg_isT1 t1 ⟨cg_in b, br_c (fun c => ?_) (fun c => ?_)⟩)
  · rw [if_pos c] at h
    cases h
    exact hp
  · rw [if_neg c] at h
    cases h
    exact hp

theorem cg_c40_s {post : St2 → Prop} {J : Int32 → (Nat → Int32) → (Nat → Int32) → (Nat → Int32) → (Nat → Int32) → Prop} {x1 tc pt : Int32} {a1 a3 a4 : Nat → Int32} {m2 : List Int32} (hp : J (x1 + 1) a1 (cg_f m2) a3 a4) : ∀ (n : Nat) (x2 : Int32) (l2 : List Int32), cg_c40 tc x1 n x2 l2 = some m2 → wX_closeOrders_40 post J x1 tc pt n x2 a1 (cg_f l2) a3 a4 := by
  intro n
  induction n with
  | zero => exact fun x2 l2 h => cg_n_s h
  | succ n ih =>
    intro x2 l2 h
    rw [cg_c40] at h
    dsimp only at h
    refine br_c (fun c => ?_) (fun c => ?_)
    · rw [if_pos c] at h
      cases h
      exact nm_e hp
    · rw [if_neg c] at h
      obtain ⟨b, h⟩ := cg_k_s h
      refine ⟨cg_in b, br_c (fun d => ?_) (fun d => ?_)⟩
      · rw [if_pos d] at h
        exact nm_e (ih _ _ h)
      · rw [if_neg d] at h
        obtain ⟨b1, h⟩ := cg_k_s h
        exact ⟨cg_in b, cg_in b1, cg_in b, nm_r (cg_up b _) (nm_e (ih _ _ h))⟩
theorem cg_c30_s {post : St2 → Prop} {tc pt : Int32} {a1 a3 a4 : Nat → Int32} {m2 : List Int32} (hp : post (tc, pt, a1, cg_f m2, a3, a4)) : ∀ (n : Nat) (x1 : Int32) (l2 : List Int32), cg_c30 tc n x1 l2 = some m2 → wX_closeOrders_30 post tc pt n x1 a1 (cg_f l2) a3 a4 := by
  intro n
  induction n with
  | zero => exact fun x1 l2 h => cg_n_s h
  | succ n ih =>
    intro x1 l2 h
    rw [cg_c30] at h
    dsimp only at h
    refine br_c (fun c => ?_) (fun c => ?_)
    · rw [if_pos c] at h
      cases h
      exact hp
    · rw [if_neg c] at h
      obtain ⟨m, e, h⟩ := cg_b_s h
      exact ⟨20, cg_c40_s (ih _ _ h) 20 _ _ e⟩
theorem cg_c2_s {post : St2 → Prop} {tc pt : Int32} {a3 a4 : Nat → Int32} {l1 m2 : List Int32} (hp : post (tc, pt, cg_f l1, cg_f m2, a3, a4)) : ∀ (n : Nat) (x1 : Int32) (l2 : List Int32), cg_c2 tc l1 n x1 l2 = some m2 → wX_closeOrders_2 post tc pt n x1 (cg_f l1) (cg_f l2) a3 a4 := by
  intro n
  induction n with
  | zero => exact fun x1 l2 h => cg_n_s h
  | succ n ih =>
    intro x1 l2 h
    rw [cg_c2] at h
    dsimp only at h
    refine br_c (fun c => ?_) (fun c => ?_)
    · rw [if_pos c] at h
      exact ⟨20, cg_c30_s hp 20 _ _ h⟩
    · rw [if_neg c] at h
      obtain ⟨b1, h⟩ := cg_k_s h
      obtain ⟨b2, h⟩ := cg_k_s h
      exact ⟨cg_in b1, cg_in b2, nm_r (cg_up b2 _) (nm_e (ih _ _ h))⟩
theorem cg_c2_w {post : St2 → Prop} {tc pt : Int32} {a3 a4 : Nat → Int32} {l1 l2 m2 : List Int32} (h : cg_c2 tc l1 20 0 l2 = some m2) (hp : post (tc, pt, cg_f l1, cg_f m2, a3, a4)) : wpX_closeOrders post (tc, pt, cg_f l1, cg_f l2, a3, a4) :=
  Exists.intro 20 (cg_c2_s hp 20 _ _ h)

theorem cg_ll_s {post : Int32 → Prop} {x1 tc pt : Int32} {a1 a2 a3 : Nat → Int32} {l4 : List Int32} {r : Int32} (hp : post r) : ∀ (n : Nat) (x2 x3 : Int32), cg_ll tc l4 x1 n x2 x3 = some r → wX_labelList_4 post x1 tc pt a1 a2 a3 (cg_f l4) n x2 x3 := by
  intro n
  induction n with
  | zero => exact fun x2 x3 h => cg_n_s h
  | succ n ih =>
    intro x2 x3 h
    rw [cg_ll] at h
    dsimp only at h
    refine br_c (fun c => ?_) (fun c => ?_)
    · rw [if_pos c] at h
      cases h
      exact hp
    · rw [if_neg c] at h
      refine br_c (fun d => ?_) (fun d => ?_)
      · rw [if_pos d] at h
        exact nm_e (ih _ _ h)
      · rw [if_neg d] at h
        obtain ⟨b, h⟩ := cg_k_s h
        refine ⟨cg_in b, br_c (fun e => ?_) (fun e => ?_)⟩
        · rw [if_pos e] at h
          cases h
          exact hp
        · rw [if_neg e] at h
          exact ⟨cg_in b, nm_e (nm_e (ih _ _ h))⟩
theorem cg_ll_w {post : Int32 → Prop} {tc pt : Int32} {a1 a2 a3 : Nat → Int32} {l4 : List Int32} {p0 r : Int32} (h : cg_ll tc l4 p0 20 0 0 = some r) (hp : post r) : wpX_labelList post (tc, pt, a1, a2, a3, cg_f l4) p0 :=
  Exists.intro 20 (cg_ll_s hp 20 _ _ h)
theorem cg_l65_s {post : St2 → Prop} {J : Int32 → (Nat → Int32) → (Nat → Int32) → (Nat → Int32) → (Nat → Int32) → Prop} {x1 tc pt : Int32} {a1 a2 : Nat → Int32} {l3 l4 m4 : List Int32} (hp : J (x1 + 1) a1 a2 (cg_f l3) (cg_f m4)) : ∀ (n : Nat) (x2 x3 x4 : Int32), cg_l65 tc pt x1 l3 l4 n x2 x3 x4 = some m4 → wX_labelByLists_65 post J x1 tc pt a1 a2 (cg_f l3) (cg_f l4) n x2 x3 x4 := by
  intro n
  induction n with
  | zero => exact fun x2 x3 x4 h => cg_n_s h
  | succ n ih =>
    intro x2 x3 x4 h
    rw [cg_l65] at h
    dsimp only at h
    refine br_c (fun c => ?_) (fun c => ?_)
    · rw [if_pos c] at h
      refine br_c (fun d => ?_) (fun d => ?_)
      · rw [if_pos d] at h
        cases h
        exact nm_e hp
      · rw [if_neg d] at h
        obtain ⟨b, h⟩ := cg_k_s h
        cases h
        exact ⟨cg_in b, nm_r (cg_up b _) (nm_e hp)⟩
    · rw [if_neg c] at h
      refine br_c (fun d => ?_) (fun d => ?_)
      · rw [if_pos d] at h
        exact nm_e (ih _ _ _ h)
      · rw [if_neg d] at h
        obtain ⟨b, h⟩ := cg_k_s h
        refine ⟨cg_in b, br_c (fun e => ?_) (fun e => ?_)⟩
        · rw [if_pos e] at h
          obtain ⟨b3, h⟩ := cg_k_s h
          obtain ⟨r, er, h⟩ := cg_b_s h
          refine ⟨cg_in b3, cg_ll_w er (br_c (fun g => ?_) (fun g => ?_))⟩
          · rw [if_pos g] at h
            exact nm_e (ih _ _ _ h)
          · rw [if_neg g] at h
            refine br_c (fun g2 => ?_) (fun g2 => ?_)
            · rw [if_pos g2] at h
              exact nm_e (ih _ _ _ h)
            · rw [if_neg g2] at h
              refine br_c (fun g3 => ?_) (fun g3 => ?_)
              · rw [if_pos g3] at h
                exact nm_e (ih _ _ _ h)
              · rw [if_neg g3] at h
                exact nm_e (ih _ _ _ h)
        · rw [if_neg e] at h
          exact nm_e (ih _ _ _ h)
theorem cg_l52_s {post : St2 → Prop} {tc pt : Int32} {a1 a2 : Nat → Int32} {l3 m4 : List Int32} (hp : post (tc, pt, a1, a2, cg_f l3, cg_f m4)) : ∀ (n : Nat) (x1 : Int32) (l4 : List Int32), cg_l52 tc pt l3 n x1 l4 = some m4 → wX_labelByLists_52 post tc pt n x1 a1 a2 (cg_f l3) (cg_f l4) := by
  intro n
  induction n with
  | zero => exact fun x1 l4 h => cg_n_s h
  | succ n ih =>
    intro x1 l4 h
    rw [cg_l52] at h
    dsimp only at h
    refine br_c (fun c => ?_) (fun c => ?_)
    · rw [if_pos c] at h
      cases h
      exact hp
    · rw [if_neg c] at h
      obtain ⟨m, e, h⟩ := cg_b_s h
      exact ⟨20, cg_l65_s (ih _ _ h) 20 _ _ _ e⟩
theorem cg_l2_s {post : St2 → Prop} {tc pt : Int32} {a1 : Nat → Int32} {l2 m3 m4 : List Int32} (hp : post (tc, pt, a1, cg_f l2, cg_f m3, cg_f m4)) : ∀ (n : Nat) (x1 : Int32) (l3 l4 : List Int32), cg_l2 tc pt l2 n x1 l3 l4 = some (m3, m4) → wX_labelByLists_2 post tc pt n x1 a1 (cg_f l2) (cg_f l3) (cg_f l4) := by
  intro n
  induction n with
  | zero => exact fun x1 l3 l4 h => cg_n_s h
  | succ n ih =>
    intro x1 l3 l4 h
    rw [cg_l2] at h
    dsimp only at h
    refine br_c (fun c => ?_) (fun c => ?_)
    · rw [if_pos c] at h
      obtain ⟨m, e, h⟩ := cg_b_s h
      cases h
      exact ⟨20, cg_l52_s hp 20 _ _ e⟩
    · rw [if_neg c] at h
      obtain ⟨b4, h⟩ := cg_k_s h
      obtain ⟨b2, h⟩ := cg_k_s h
      obtain ⟨r, e, h⟩ := cg_b_s h
      obtain ⟨b3, h⟩ := cg_k_s h
      refine ⟨cg_in b4, nm_r (cg_up b4 _) ⟨cg_in b2, cg_imm_w e ?_⟩⟩
      exact ⟨cg_in b3, nm_r (cg_up b3 _) (nm_e (ih _ _ _ h))⟩
theorem cg_l2_w {post : St2 → Prop} {tc pt : Int32} {a1 : Nat → Int32} {l2 l3 l4 m3 m4 : List Int32} (h : cg_l2 tc pt l2 20 0 l3 l4 = some (m3, m4)) (hp : post (tc, pt, a1, cg_f l2, cg_f m3, cg_f m4)) : wpX_labelByLists post (tc, pt, a1, cg_f l2, cg_f l3, cg_f l4) :=
  Exists.intro 20 (cg_l2_s hp 20 _ _ _ h)
end
section
/-! The rest of the methods: schedules, without, removeTask, trees, heights, shortest. -/
theorem cg_rdy_s {post : Int32 → Prop} {x1 x2 tc pt : Int32} {a1 a3 a4 : Nat → Int32} {l2 : List Int32} {r : Int32} (hp : post r) : ∀ (n : Nat) (x3 : Int32), cg_rdy tc l2 x1 x2 n x3 = some r → wX_isReady_2 post x1 x2 tc pt a1 (cg_f l2) a3 a4 n x3 := by
  intro n
  induction n with
  | zero => exact fun x3 h => cg_n_s h
  | succ n ih =>
    intro x3 h
    rw [cg_rdy] at h
    dsimp only at h
    refine br_c (fun c => ?_) (fun c => ?_)
    · rw [if_pos c] at h
      cases h
      exact hp
    · rw [if_neg c] at h
      refine br_c (fun d => ?_) (fun d => ?_)
      · rw [if_pos d] at h
        exact nm_e (ih _ h)
      · rw [if_neg d] at h
        obtain ⟨b, h⟩ := cg_k_s h
        refine ⟨cg_in b, br_c (fun e => ?_) (fun e => ?_)⟩
        · rw [if_pos e] at h
          exact nm_e (ih _ h)
        · rw [if_neg e] at h
          cases h
          exact hp
theorem cg_rdy_w {post : Int32 → Prop} {tc pt : Int32} {a1 a3 a4 : Nat → Int32} {l2 : List Int32} {p0 p1 r : Int32} (h : cg_rdy tc l2 p0 p1 20 0 = some r) (hp : post r) : wpX_isReady post (tc, pt, a1, cg_f l2, a3, a4) p0 p1 :=
  Exists.intro 20 (cg_rdy_s hp 20 _ h)
theorem cg_br_s {post : Int32 → Prop} {x2 x3 tc pt : Int32} {a1 a3 : Nat → Int32} {l2 l4 : List Int32} {r : Int32} (hp : post r) : ∀ (n : Nat) (x4 x5 : Int32), cg_br tc l2 l4 x2 x3 n x4 x5 = some r → wX_bestReady_15 post x2 x3 tc pt a1 (cg_f l2) a3 (cg_f l4) n x4 x5 := by
  intro n
  induction n with
  | zero => exact fun x4 x5 h => cg_n_s h
  | succ n ih =>
    intro x4 x5 h
    rw [cg_br] at h
    dsimp only at h
    refine br_c (fun c => ?_) (fun c => ?_)
    · rw [if_pos c] at h
      cases h
      exact hp
    · rw [if_neg c] at h
      refine br_c (fun d => ?_) (fun d => ?_)
      · rw [if_pos d] at h
        exact nm_e (ih _ _ h)
      · rw [if_neg d] at h
        refine br_c (fun e => ?_) (fun e => ?_)
        · rw [if_pos e] at h
          obtain ⟨q, eq, h⟩ := cg_b_s h
          refine cg_rdy_w eq (br_c (fun g => ?_) (fun g => ?_))
          · rw [if_pos g] at h
            exact nm_e (ih _ _ h)
          · rw [if_neg g] at h
            refine br_c (fun g2 => ?_) (fun g2 => ?_)
            · rw [if_pos g2] at h
              exact nm_e (ih _ _ h)
            · rw [if_neg g2] at h
              obtain ⟨b5, h⟩ := cg_k_s h
              obtain ⟨b4, h⟩ := cg_k_s h
              refine ⟨cg_in b5, cg_in b4, br_c (fun g3 => ?_) (fun g3 => ?_)⟩
              · rw [if_pos g3] at h
                exact nm_e (ih _ _ h)
              · rw [if_neg g3] at h
                exact nm_e (ih _ _ h)
        · rw [if_neg e] at h
          exact nm_e (ih _ _ h)
theorem cg_br_w {post : Int32 → Prop} {tc pt : Int32} {a1 a3 : Nat → Int32} {l2 l4 : List Int32} {p0 p1 r : Int32} (h : cg_br tc l2 l4 p1 (pt &&& (p0 ^^^ (-1))) 20 (-1) 0 = some r) (hp : post r) : wpX_bestReady post (tc, pt, a1, cg_f l2, a3, cg_f l4) p0 p1 := by
  unfold wpX_bestReady
  exact nm_e (Exists.intro 20 (cg_br_s hp 20 _ _ h))
theorem cg_n24_s {post : Int32 → Prop} {J : Int32 → Int32 → Prop} {x1 x2 x3 tc pt : Int32} {a1 a3 : Nat → Int32} {l2 l4 : List Int32} {y : Int32} (hp : J y (x3 + 1)) : ∀ (n : Nat) (x4 x5 : Int32), cg_n24 tc pt l2 l4 x1 x2 n x4 x5 = some y → wX_lengthOnList_24 post J x1 x2 x3 tc pt a1 (cg_f l2) a3 (cg_f l4) n x4 x5 := by
  intro n
  induction n with
  | zero => exact fun x4 x5 h => cg_n_s h
  | succ n ih =>
    intro x4 x5 h
    rw [cg_n24] at h
    dsimp only at h
    refine br_c (fun c => ?_) (fun c => ?_)
    · rw [if_pos c] at h
      cases h
      exact nm_e (nm_e hp)
    · rw [if_neg c] at h
      obtain ⟨q, eq, h⟩ := cg_b_s h
      refine cg_br_w eq (br_c (fun g => ?_) (fun g => ?_))
      · rw [if_pos g] at h
        exact nm_e (ih _ _ h)
      · rw [if_neg g] at h
        exact nm_e (nm_e (ih _ _ h))
theorem cg_n4_s {post : Int32 → Prop} {x1 tc pt : Int32} {a1 a3 : Nat → Int32} {l2 l4 : List Int32} {r : Int32} (hp : post r) : ∀ (n : Nat) (x2 x3 : Int32), cg_n4 tc pt l2 l4 x1 n x2 x3 = some r → wX_lengthOnList_4 post x1 tc pt a1 (cg_f l2) a3 (cg_f l4) n x2 x3 := by
  intro n
  induction n with
  | zero => exact fun x2 x3 h => cg_n_s h
  | succ n ih =>
    intro x2 x3 h
    rw [cg_n4] at h
    dsimp only at h
    refine br_c (fun c => ?_) (fun c => ?_)
    · rw [if_pos c] at h
      cases h
      exact hp
    · rw [if_neg c] at h
      refine br_c (fun d => ?_) (fun d => ?_)
      · rw [if_pos d] at h
        cases h
        exact hp
      · rw [if_neg d] at h
        obtain ⟨y, e, h⟩ := cg_b_s h
        exact ⟨20, cg_n24_s (ih _ _ h) 20 _ _ e⟩
theorem cg_n4_w {post : Int32 → Prop} {tc pt : Int32} {a1 a3 : Nat → Int32} {l2 l4 : List Int32} {p0 r : Int32} (h : cg_n4 tc pt l2 l4 p0 20 0 0 = some r) (hp : post r) : wpX_lengthOnList post (tc, pt, a1, cg_f l2, a3, cg_f l4) p0 :=
  Exists.intro 20 (cg_n4_s hp 20 _ _ h)

theorem cg_wo_w {post : Int32 → St2 → Prop} {tc pt pt' : Int32} {l1 l2 l3 l4 m1 m2 m3 m4 : List Int32} {p0 r : Int32} (t : cg_t tc p0 = true) (b : cg_b p0 l1 = true) (ept : (((1 : Int32) <<< (tc &&& 31)) - 1) &&& (((1 : Int32) <<< (p0 &&& 31)) ^^^ (-1)) = pt') (h : cg_wo1 tc pt' l1 l2 l3 l4 p0 = some (r, m1, m2, m3, m4)) (hp : post r (tc, pt', cg_f m1, cg_f m2, cg_f m3, cg_f m4)) : wpX_without post (tc, pt, cg_f l1, cg_f l2, cg_f l3, cg_f l4) p0 := by
  unfold cg_wo1 at h
  obtain ⟨k2, e1, h⟩ := cg_b_s h
  obtain ⟨⟨k3, k4⟩, e2, h⟩ := cg_b_s h
  obtain ⟨r', e3, h⟩ := cg_b_s h
  obtain ⟨b', h⟩ := cg_k_s h
  obtain ⟨j2, e4, h⟩ := cg_b_s h
  cases h
  unfold wpX_without
  dsimp only
  refine cg_isT1 t ⟨cg_in b, nm_e (nm_r ept ⟨cg_in b, nm_r (cg_up b _) (cg_c2_w e1 (cg_l2_w e2 (cg_n4_w e3 ?_)))⟩)⟩
  exact ⟨cg_in b, nm_r (cg_up b' _) (cg_c2_w e4 hp)⟩
theorem cg_wo_bad {post : Int32 → St2 → Prop} {tc pt : Int32} {a1 a2 a3 a4 : Nat → Int32} {p0 : Int32} (t : cg_t tc p0 = false) (hp : post (-1) (tc, pt, a1, a2, a3, a4)) : wpX_without post (tc, pt, a1, a2, a3, a4) p0 := by
  unfold wpX_without
  dsimp only
  exact cg_isT0 t hp

theorem cg_r58_s {post : Int32 → St2 → Prop} {x2 tc pt : Int32} {a3 a4 : Nat → Int32} {l2 m1 m2 : List Int32} (hc : cg_c2 tc m1 20 0 l2 = some m2) (hp : post tc (tc, pt, cg_f m1, cg_f m2, a3, a4)) : ∀ (n : Nat) (x3 : Int32) (l1 : List Int32), cg_r58 tc x2 n x3 l1 = some m1 → wX_removeTask_58 post x2 tc pt n x3 (cg_f l1) (cg_f l2) a3 a4 := by
  intro n
  induction n with
  | zero => exact fun x3 l1 h => cg_n_s h
  | succ n ih =>
    intro x3 l1 h
    rw [cg_r58] at h
    dsimp only at h
    refine br_c (fun c => ?_) (fun c => ?_)
    · rw [if_pos c] at h
      cases h
      exact cg_c2_w hc hp
    · rw [if_neg c] at h
      obtain ⟨b, h⟩ := cg_k_s h
      exact ⟨cg_in b, cg_in b, cg_in b, nm_r (cg_up b _) (nm_e (ih _ _ h))⟩
theorem cg_r22_s {post : Int32 → St2 → Prop} {x1 tc pt : Int32} {a3 a4 : Nat → Int32} {l2 m1 m2 : List Int32} (hc : cg_c2 tc m1 20 0 l2 = some m2) (hp : post tc (tc, pt, cg_f m1, cg_f m2, a3, a4)) : ∀ (n : Nat) (x2 : Int32) (l1 : List Int32), cg_r22 tc x1 n x2 l1 = some m1 → wX_removeTask_22 post x1 tc pt n x2 (cg_f l1) (cg_f l2) a3 a4 := by
  intro n
  induction n with
  | zero => exact fun x2 l1 h => cg_n_s h
  | succ n ih =>
    intro x2 l1 h
    rw [cg_r22] at h
    dsimp only at h
    refine br_c (fun c => ?_) (fun c => ?_)
    · rw [if_pos c] at h
      exact nm_e ⟨20, cg_r58_s hc hp 20 _ _ h⟩
    · rw [if_neg c] at h
      obtain ⟨b1, h⟩ := cg_k_s h
      obtain ⟨b, h⟩ := cg_k_s h
      exact ⟨cg_in b1, cg_in b, nm_r (cg_up b _) (nm_e (ih _ _ h))⟩
theorem cg_rem_w {post : Int32 → St2 → Prop} {tc tc' pt : Int32} {a3 a4 : Nat → Int32} {l1 l2 m1 m2 : List Int32} {p0 : Int32} (etc : tc - 1 = tc') (h : cg_rem tc l1 l2 p0 = some (m1, m2)) (hp : post tc' (tc', pt, cg_f m1, cg_f m2, a3, a4)) : wpX_removeTask post (tc, pt, cg_f l1, cg_f l2, a3, a4) p0 := by
  unfold cg_rem at h
  obtain ⟨t, h⟩ := cg_k_s h
  obtain ⟨k1, e1, h⟩ := cg_b_s h
  obtain ⟨k2, e2, h⟩ := cg_b_s h
  cases h
  rw [etc] at e1 e2
  unfold wpX_removeTask
  dsimp only
  exact cg_isT1 t (nm_r etc ⟨20, cg_r22_s e2 hp 20 _ _ e1⟩)
theorem cg_rem_bad {post : Int32 → St2 → Prop} {tc pt : Int32} {a1 a2 a3 a4 : Nat → Int32} {p0 : Int32} (t : cg_t tc p0 = false) (hp : post (-1) (tc, pt, a1, a2, a3, a4)) : wpX_removeTask post (tc, pt, a1, a2, a3, a4) p0 := by
  unfold wpX_removeTask
  dsimp only
  exact cg_isT0 t hp

theorem cg_tree_s {post : Int32 → Prop} {tc pt : Int32} {a1 a3 a4 : Nat → Int32} {l2 : List Int32} {r : Int32} (hp : post r) : ∀ (n : Nat) (x1 : Int32), cg_tree tc l2 n x1 = some r → wX_inTrees_2 post tc pt a1 (cg_f l2) a3 a4 n x1 := by
  intro n
  induction n with
  | zero => exact fun x1 h => cg_n_s h
  | succ n ih =>
    intro x1 h
    rw [cg_tree] at h
    dsimp only at h
    refine br_c (fun c => ?_) (fun c => ?_)
    · rw [if_pos c] at h
      cases h
      exact hp
    · rw [if_neg c] at h
      obtain ⟨b, h⟩ := cg_k_s h
      obtain ⟨q, e, h⟩ := cg_b_s h
      refine ⟨cg_in b, cg_imm_w e (br_c (fun d => ?_) (fun d => ?_))⟩
      · rw [if_pos d] at h
        exact nm_e (ih _ h)
      · rw [if_neg d] at h
        cases h
        exact hp
theorem cg_tree_w {post : Int32 → Prop} {tc pt : Int32} {a1 a3 a4 : Nat → Int32} {l2 : List Int32} {r : Int32} (h : cg_tree tc l2 20 0 = some r) (hp : post r) : wpX_inTrees post (tc, pt, a1, cg_f l2, a3, a4) :=
  Exists.intro 20 (cg_tree_s hp 20 _ h)
theorem cg_h29_s {post : Int32 → Prop} {J : Int32 → Int32 → Int32 → Prop} {x2 x3 x4 tc pt : Int32} {a1 a3 a4 : Nat → Int32} {l2 : List Int32} {y : Int32} (hp : J y (x3 + 1) (x4 + 1)) : ∀ (n : Nat) (x5 x6 : Int32), cg_h29 tc l2 x2 n x5 x6 = some y → wX_heightOf_29 post J x2 x3 x4 tc pt a1 (cg_f l2) a3 a4 n x5 x6 := by
  intro n
  induction n with
  | zero => exact fun x5 x6 h => cg_n_s h
  | succ n ih =>
    intro x5 x6 h
    rw [cg_h29] at h
    dsimp only at h
    refine br_c (fun c => ?_) (fun c => ?_)
    · rw [if_pos c] at h
      cases h
      exact nm_e (nm_e hp)
    · rw [if_neg c] at h
      refine br_c (fun d => ?_) (fun d => ?_)
      · rw [if_pos d] at h
        exact nm_e (ih _ _ h)
      · rw [if_neg d] at h
        obtain ⟨b, h⟩ := cg_k_s h
        refine ⟨cg_in b, br_c (fun e => ?_) (fun e => ?_)⟩
        · rw [if_pos e] at h
          exact nm_e (ih _ _ h)
        · rw [if_neg e] at h
          exact nm_e (nm_e (ih _ _ h))
theorem cg_h12_s {post : Int32 → Prop} {tc pt : Int32} {a1 a3 a4 : Nat → Int32} {l2 : List Int32} {r : Int32} (hp : post r) : ∀ (n : Nat) (x2 x3 x4 : Int32), cg_h12 tc l2 n x2 x3 x4 = some r → wX_heightOf_12 post tc pt a1 (cg_f l2) a3 a4 n x2 x3 x4 := by
  intro n
  induction n with
  | zero => exact fun x2 x3 x4 h => cg_n_s h
  | succ n ih =>
    intro x2 x3 x4 h
    rw [cg_h12] at h
    dsimp only at h
    refine br_c (fun c => ?_) (fun c => ?_)
    · rw [if_pos c] at h
      cases h
      exact hp
    · rw [if_neg c] at h
      refine br_c (fun d => ?_) (fun d => ?_)
      · rw [if_pos d] at h
        cases h
        exact hp
      · rw [if_neg d] at h
        obtain ⟨y, e, h⟩ := cg_b_s h
        exact ⟨20, cg_h29_s (ih _ _ _ h) 20 _ _ e⟩
theorem cg_h12_w {post : Int32 → Prop} {tc pt : Int32} {a1 a3 a4 : Nat → Int32} {l2 : List Int32} {p0 r : Int32} (b : cg_b p0 l2 = true) (h : cg_h12 tc l2 20 (cg_f l2 p0.toNatClampNeg) 1 0 = some r) (hp : post r) : wpX_heightOf post (tc, pt, a1, cg_f l2, a3, a4) p0 := by
  unfold wpX_heightOf
  exact ⟨cg_in b, nm_e ⟨20, cg_h12_s hp 20 _ _ _ h⟩⟩
theorem cg_lh_s {post : St2 → Prop} {tc pt : Int32} {a1 a3 : Nat → Int32} {l2 m4 : List Int32} (hp : post (tc, pt, a1, cg_f l2, a3, cg_f m4)) : ∀ (n : Nat) (x1 : Int32) (l4 : List Int32), cg_lh tc l2 n x1 l4 = some m4 → wX_labelByHeights_2 post tc pt n x1 a1 (cg_f l2) a3 (cg_f l4) := by
  intro n
  induction n with
  | zero => exact fun x1 l4 h => cg_n_s h
  | succ n ih =>
    intro x1 l4 h
    rw [cg_lh] at h
    dsimp only at h
    refine br_c (fun c => ?_) (fun c => ?_)
    · rw [if_pos c] at h
      cases h
      exact hp
    · rw [if_neg c] at h
      obtain ⟨b2, h⟩ := cg_k_s h
      obtain ⟨q, e, h⟩ := cg_b_s h
      obtain ⟨b4, h⟩ := cg_k_s h
      refine cg_h12_w b2 e ?_
      exact ⟨cg_in b4, nm_r (cg_up b4 _) (nm_e (ih _ _ h))⟩
theorem cg_lh_w {post : St2 → Prop} {tc pt : Int32} {a1 a3 : Nat → Int32} {l2 l4 m4 : List Int32} (h : cg_lh tc l2 20 0 l4 = some m4) (hp : post (tc, pt, a1, cg_f l2, a3, cg_f m4)) : wpX_labelByHeights post (tc, pt, a1, cg_f l2, a3, cg_f l4) :=
  Exists.intro 20 (cg_lh_s hp 20 _ _ h)
theorem cg_sh2_w {post : Int32 → St2 → Prop} {tc pt pt' : Int32} {a1 : Nat → Int32} {l2 l3 l4 m3 m4 : List Int32} {r : Int32} (ept : ((1 : Int32) <<< (tc &&& 31)) - 1 = pt') (h : cg_sh2 tc pt' l2 l3 l4 = some (r, m3, m4)) (hp : post r (tc, pt', a1, cg_f l2, cg_f m3, cg_f m4)) : wpX_shortest post (tc, pt, a1, cg_f l2, cg_f l3, cg_f l4) 2 := by
  unfold cg_sh2 at h
  obtain ⟨⟨k3, k4⟩, e1, h⟩ := cg_b_s h
  obtain ⟨r', e2, h⟩ := cg_b_s h
  cases h
  exact br_f (by decide) (br_t (by decide) (nm_r ept (br_f (by decide) (br_t rfl (cg_l2_w e1 (cg_n4_w e2 hp))))))
theorem cg_sh3_w {post : Int32 → St2 → Prop} {tc pt pt' : Int32} {a1 a3 : Nat → Int32} {l2 l4 m4 : List Int32} {r : Int32} (ept : ((1 : Int32) <<< (tc &&& 31)) - 1 = pt') (h : cg_sh3 tc pt' l2 l4 = some (r, m4)) (hp : post r (tc, pt', a1, cg_f l2, a3, cg_f m4)) : wpX_shortest post (tc, pt, a1, cg_f l2, a3, cg_f l4) 3 := by
  unfold cg_sh3 at h
  obtain ⟨t, e1, h⟩ := cg_b_s h
  obtain ⟨ht, h⟩ := cg_k_s h
  obtain ⟨k4, e2, h⟩ := cg_b_s h
  obtain ⟨r', e3, h⟩ := cg_b_s h
  cases h
  exact br_f (by decide) (br_t (by decide) (nm_r ept (br_f (by decide) (br_f (by decide) (cg_tree_w e1 (br_f (of_decide_eq_true ht) (cg_lh_w e2 (cg_n4_w e3 hp))))))))
end
section
/-! The law from its end backwards, over the answers of the plain functions. -/
def cg_Z : List Int32 := [0, 0, 0, 0, 0, 0, 0, 0, 0]
def cg_N : List Int32 := [2, 4, 0, 0, 0, 0, 0, 0, 0]
def cg_F : List Int32 := [6, 4, 0, 0, 0, 0, 0, 0, 0]
theorem cg_z : (fun _ : Nat => (0 : Int32)) = cg_f cg_Z := by
  funext j
  match j with
  | 0 => rfl
  | 1 => rfl
  | 2 => rfl
  | 3 => rfl
  | 4 => rfl
  | 5 => rfl
  | 6 => rfl
  | 7 => rfl
  | 8 => rfl
  | n + 9 => rfl
/-- what the law expects: a where the third int names no task, b where it names task 1 and there is no far order, c else -/
def cg_e (a b c x2 x4 x5 : Int32) : Int32 := if x5 = 0 then a else if x2 = 1 then (if x4 = 0 then b else c) else c
theorem cg_sel {x2 x4 x5 a b c e : Int32} {A B C : Prop} (he : cg_e a b c x2 x4 x5 = e) (hA : e = a → A) (hB : e = b → B) (hC : e = c → C) : (x5 = 0 → A) ∧ (¬ x5 = 0 → ((x2 = 1 → ((x4 = 0 → B) ∧ (¬ x4 = 0 → C))) ∧ (¬ x2 = 1 → C))) := by
  unfold cg_e at he
  refine ⟨fun h5 => ?_, fun h5 => ⟨fun h2 => ⟨fun h4 => ?_, fun h4 => ?_⟩, fun h2 => ?_⟩⟩
  · rw [if_pos h5] at he
    exact hA he.symm
  · rw [if_neg h5, if_pos h2, if_pos h4] at he
    exact hB he.symm
  · rw [if_neg h5, if_pos h2, if_neg h4] at he
    exact hC he.symm
  · rw [if_neg h5, if_neg h2] at he
    exact hC he.symm
def cg_g (x2 x4 : Int32) : Int32 := if x2 = 1 then (if x4 = 0 then 0 else 1) else 1
theorem cg_sel2 {x2 x4 g : Int32} {A B : Prop} (he : cg_g x2 x4 = g) (hA : g = 0 → A) (hB : g = 1 → B) : (x2 = 1 → ((x4 = 0 → A) ∧ (¬ x4 = 0 → B))) ∧ (¬ x2 = 1 → B) := by
  unfold cg_g at he
  refine ⟨fun h2 => ⟨fun h4 => ?_, fun h4 => ?_⟩, fun h2 => ?_⟩
  · rw [if_pos h2, if_pos h4] at he
    exact hA he.symm
  · rw [if_pos h2, if_neg h4] at he
    exact hB he.symm
  · rw [if_neg h2] at he
    exact hB he.symm

theorem cg_277 {post : Int32 → St0 → Prop} {mc ms kc ks : Nat} {x2 x4 x5 z0 z1 tc pt pt' e : Int32} {a1 a3 : Nat → Int32} {l2 l4 m4 : List Int32} (hp : post 1 ()) (hz : z1 = z0) (he : cg_e 3 1 2 x2 x4 x5 = e) (ept : ((1 : Int32) <<< (tc &&& 31)) - 1 = pt') (h3 : cg_sh3 tc pt' l2 l4 = some (e, m4)) : wL_lawOf_277 post mc ms x2 x4 x5 z0 z1 kc ks tc pt a1 (cg_f l2) a3 (cg_f l4) :=
  br_t hz (cg_sh3_w ept h3 (cg_sel he (fun q => br_t q hp) (fun q => br_t q hp) (fun q => br_t q hp)))
theorem cg_242 {post : Int32 → St0 → Prop} {mc ms kc ks : Nat} {x2 x4 x5 z0 z1 tc pt pt' e : Int32} {a1 : Nat → Int32} {l2 l3 l4 j3 j4 m4 : List Int32} (hp : post 1 ()) (hz : z1 = z0) (he : cg_e 3 1 2 x2 x4 x5 = e) (ept : ((1 : Int32) <<< (tc &&& 31)) - 1 = pt') (h2 : cg_sh2 tc pt' l2 l3 l4 = some (e, j3, j4)) (h3 : cg_sh3 tc pt' l2 j4 = some (e, m4)) : wL_lawOf_242 post mc ms x2 x4 x5 z0 z1 kc ks tc pt a1 (cg_f l2) (cg_f l3) (cg_f l4) :=
  br_t hz (cg_sh2_w ept h2 (cg_sel he (fun q => cg_277 hp q he ept h3) (fun q => cg_277 hp q he ept h3) (fun q => cg_277 hp q he ept h3)))
theorem cg_215 {post : Int32 → St0 → Prop} {mc ms kc ks : Nat} {x2 x4 x5 z0 z1 tc pt pt' e g : Int32} {a1 : Nat → Int32} {l2 l3 l4 j3 j4 m4 : List Int32} (hp : post 1 ()) (hz : z1 = z0) (hg : cg_aft tc l2 0 1 = some g) (eg : cg_g x2 x4 = g) (he : cg_e 3 1 2 x2 x4 x5 = e) (ept : ((1 : Int32) <<< (tc &&& 31)) - 1 = pt') (h2 : cg_sh2 tc pt' l2 l3 l4 = some (e, j3, j4)) (h3 : cg_sh3 tc pt' l2 j4 = some (e, m4)) : wL_lawOf_215 post mc ms x2 x4 x5 z0 z1 kc ks tc pt a1 (cg_f l2) (cg_f l3) (cg_f l4) :=
  br_t hz (cg_aft_w hg (cg_sel2 eg (fun q => cg_242 hp q he ept h2 h3) (fun q => cg_242 hp q he ept h2 h3)))
/-- the third int names a task -/
theorem cg_T_in {post : Int32 → St0 → Prop} {mc ms kc ks : Nat} {x2 x4 z0 z1 s w pt' g e : Int32} {l1 l2 l3 l4 m1 m2 m3 m4 k1 k2 j3 j4 i4 : List Int32} (hp : post 1 ()) (hz : z1 = z0)
    (hs : cg_sup 3 l1 l2 20 0 0 = some s) (hs0 : x4 = 0 → s = 0) (hs1 : ¬ x4 = 0 → s = 1) (ha : cg_aft 3 l2 0 2 = some 1)
    (ht : cg_t 3 x2 = true) (hb : cg_b x2 l1 = true) (hpt : (((1 : Int32) <<< ((3 : Int32) &&& 31)) - 1) &&& (((1 : Int32) <<< (x2 &&& 31)) ^^^ (-1)) = pt')
    (hw : cg_wo1 3 pt' l1 l2 l3 l4 x2 = some (w, m1, m2, m3, m4)) (ew : cg_e (-1) 1 2 x2 x4 1 = w) (hr : cg_rem 3 m1 m2 x2 = some (k1, k2))
    (hg : cg_aft 2 k2 0 1 = some g) (eg : cg_g x2 x4 = g) (h2 : cg_sh2 2 3 k2 m3 m4 = some (e, j3, j4)) (h3 : cg_sh3 2 3 k2 j4 = some (e, i4)) (he : cg_e 3 1 2 x2 x4 1 = e) :
    wL_lawOf_127 post mc ms x2 x4 1 z0 z1 kc ks 3 0 (cg_f l1) (cg_f l2) (cg_f l3) (cg_f l4) := by
  have h194 : ∀ y0 y1 : Int32, y1 = y0 → wL_lawOf_194 post mc ms x2 x4 1 y0 y1 kc ks 3 pt' (cg_f m1) (cg_f m2) (cg_f m3) (cg_f m4) := fun y0 y1 hy =>
    br_t hy (cg_rem_w (by decide +kernel) hr (br_f (by decide) (cg_215 hp rfl hg eg he (by decide +kernel) h2 h3)))
  have h147 : ∀ y0 y1 : Int32, y1 = y0 → wL_lawOf_147 post mc ms x2 x4 1 y0 y1 kc ks 3 0 (cg_f l1) (cg_f l2) (cg_f l3) (cg_f l4) := fun y0 y1 hy =>
    br_t hy (cg_aft_w ha (br_f (by decide) (cg_wo_w ht hb hpt hw (cg_sel ew (fun q => h194 _ _ q) (fun q => h194 _ _ q) (fun q => h194 _ _ q)))))
  exact br_t hz (cg_sup_w hs (br_c (fun c => h147 _ _ (hs0 c)) (fun c => h147 _ _ (hs1 c))))
/-- the third int names no task -/
theorem cg_T_out {post : Int32 → St0 → Prop} {mc ms kc ks : Nat} {x2 x4 z0 z1 s : Int32} {l1 l2 l3 l4 j3 j4 i4 : List Int32} (hp : post 1 ()) (hz : z1 = z0)
    (hs : cg_sup 3 l1 l2 20 0 0 = some s) (hs0 : x4 = 0 → s = 0) (hs1 : ¬ x4 = 0 → s = 1) (ha : cg_aft 3 l2 0 2 = some 1)
    (ht : cg_t 3 x2 = false) (hg : cg_aft 3 l2 0 1 = some 1) (h2 : cg_sh2 3 7 l2 l3 l4 = some (3, j3, j4)) (h3 : cg_sh3 3 7 l2 j4 = some (3, i4)) :
    wL_lawOf_127 post mc ms x2 x4 0 z0 z1 kc ks 3 0 (cg_f l1) (cg_f l2) (cg_f l3) (cg_f l4) := by
  have hx : ¬ x2 = 1 := fun q => by
    rw [q] at ht
    exact absurd ht (by decide)
  have eg : cg_g x2 x4 = 1 := if_neg hx
  have he : ∀ a b c : Int32, cg_e a b c x2 x4 0 = a := fun a b c => if_pos rfl
  have h147 : ∀ y0 y1 : Int32, y1 = y0 → wL_lawOf_147 post mc ms x2 x4 0 y0 y1 kc ks 3 0 (cg_f l1) (cg_f l2) (cg_f l3) (cg_f l4) := fun y0 y1 hy =>
    br_t hy (cg_aft_w ha (br_f (by decide) (cg_wo_bad ht (br_t rfl (br_t rfl (cg_rem_bad ht (br_t rfl (cg_215 hp rfl hg eg (he 3 1 2) (by decide +kernel) h2 h3))))))))
  exact br_t hz (cg_sup_w hs (br_c (fun c => h147 _ _ (hs0 c)) (fun c => h147 _ _ (hs1 c))))
end
section
/-! The eight runs: far order or not, the third int 0, 1, 2 or no task (printed by cases.py). -/
theorem cg_c_00 {post : Int32 → St0 → Prop} {mc ms kc ks : Nat} {z0 z1 : Int32} (hp : post 1 ()) (hz : z1 = z0) : wL_lawOf_127 post mc ms 0 0 1 z0 z1 kc ks 3 0 (cg_f cg_N) (cg_f cg_F) (cg_f cg_Z) (cg_f cg_Z) :=
  cg_T_in (s := 0) (w := 2) (pt' := 6) (g := 1) (e := 2) (m1 := [2, 4, 0, 0, 0, 0, 0, 0, 0]) (m2 := [6, 4, 0, 0, 0, 0, 0, 0, 0]) (m3 := [0, 4, 0, 0, 0, 0, 0, 0, 0]) (m4 := [0, 2, 1, 0, 0, 0, 0, 0, 0]) (k1 := [2, 0, 0, 0, 0, 0, 0, 0, 0]) (k2 := [2, 0, 0, 0, 0, 0, 0, 0, 0]) (j3 := [2, 0, 0, 0, 0, 0, 0, 0, 0]) (j4 := [2, 1, 1, 0, 0, 0, 0, 0, 0]) (i4 := [2, 1, 1, 0, 0, 0, 0, 0, 0]) hp hz
    (by decide +kernel) (by decide +kernel) (by decide +kernel) (by decide +kernel) (by decide +kernel) (by decide +kernel) (by decide +kernel) (by decide +kernel) (by decide +kernel) (by decide +kernel) (by decide +kernel) (by decide +kernel) (by decide +kernel) (by decide +kernel) (by decide +kernel)
theorem cg_c_01 {post : Int32 → St0 → Prop} {mc ms kc ks : Nat} {z0 z1 : Int32} (hp : post 1 ()) (hz : z1 = z0) : wL_lawOf_127 post mc ms 1 0 1 z0 z1 kc ks 3 0 (cg_f cg_N) (cg_f cg_F) (cg_f cg_Z) (cg_f cg_Z) :=
  cg_T_in (s := 0) (w := 1) (pt' := 5) (g := 0) (e := 1) (m1 := [2, 4, 0, 0, 0, 0, 0, 0, 0]) (m2 := [6, 4, 0, 0, 0, 0, 0, 0, 0]) (m3 := [0, 0, 0, 0, 0, 0, 0, 0, 0]) (m4 := [1, 0, 2, 0, 0, 0, 0, 0, 0]) (k1 := [0, 0, 0, 0, 0, 0, 0, 0, 0]) (k2 := [0, 0, 0, 0, 0, 0, 0, 0, 0]) (j3 := [0, 0, 0, 0, 0, 0, 0, 0, 0]) (j4 := [1, 2, 2, 0, 0, 0, 0, 0, 0]) (i4 := [1, 1, 2, 0, 0, 0, 0, 0, 0]) hp hz
    (by decide +kernel) (by decide +kernel) (by decide +kernel) (by decide +kernel) (by decide +kernel) (by decide +kernel) (by decide +kernel) (by decide +kernel) (by decide +kernel) (by decide +kernel) (by decide +kernel) (by decide +kernel) (by decide +kernel) (by decide +kernel) (by decide +kernel)
theorem cg_c_02 {post : Int32 → St0 → Prop} {mc ms kc ks : Nat} {z0 z1 : Int32} (hp : post 1 ()) (hz : z1 = z0) : wL_lawOf_127 post mc ms 2 0 1 z0 z1 kc ks 3 0 (cg_f cg_N) (cg_f cg_F) (cg_f cg_Z) (cg_f cg_Z) :=
  cg_T_in (s := 0) (w := 2) (pt' := 3) (g := 1) (e := 2) (m1 := [2, 4, 0, 0, 0, 0, 0, 0, 0]) (m2 := [6, 4, 0, 0, 0, 0, 0, 0, 0]) (m3 := [2, 0, 0, 0, 0, 0, 0, 0, 0]) (m4 := [2, 1, 0, 0, 0, 0, 0, 0, 0]) (k1 := [2, 0, 0, 0, 0, 0, 0, 0, 0]) (k2 := [2, 0, 0, 0, 0, 0, 0, 0, 0]) (j3 := [2, 0, 0, 0, 0, 0, 0, 0, 0]) (j4 := [2, 1, 0, 0, 0, 0, 0, 0, 0]) (i4 := [2, 1, 0, 0, 0, 0, 0, 0, 0]) hp hz
    (by decide +kernel) (by decide +kernel) (by decide +kernel) (by decide +kernel) (by decide +kernel) (by decide +kernel) (by decide +kernel) (by decide +kernel) (by decide +kernel) (by decide +kernel) (by decide +kernel) (by decide +kernel) (by decide +kernel) (by decide +kernel) (by decide +kernel)
theorem cg_c_0o {post : Int32 → St0 → Prop} {mc ms kc ks : Nat} {x2 z0 z1 : Int32} (hp : post 1 ()) (hz : z1 = z0) (ht : cg_t 3 x2 = false) : wL_lawOf_127 post mc ms x2 0 0 z0 z1 kc ks 3 0 (cg_f cg_N) (cg_f cg_F) (cg_f cg_Z) (cg_f cg_Z) :=
  cg_T_out (s := 0) (j3 := [2, 4, 0, 0, 0, 0, 0, 0, 0]) (j4 := [3, 2, 1, 0, 0, 0, 0, 0, 0]) (i4 := [3, 2, 1, 0, 0, 0, 0, 0, 0]) hp hz
    (by decide +kernel) (by decide +kernel) (by decide +kernel) (by decide +kernel) ht (by decide +kernel) (by decide +kernel) (by decide +kernel)
theorem cg_c_10 {post : Int32 → St0 → Prop} {mc ms kc ks : Nat} {z0 z1 : Int32} (hp : post 1 ()) (hz : z1 = z0) : wL_lawOf_127 post mc ms 0 1 1 z0 z1 kc ks 3 0 (cg_f cg_F) (cg_f cg_F) (cg_f cg_Z) (cg_f cg_Z) :=
  cg_T_in (s := 1) (w := 2) (pt' := 6) (g := 1) (e := 2) (m1 := [6, 4, 0, 0, 0, 0, 0, 0, 0]) (m2 := [6, 4, 0, 0, 0, 0, 0, 0, 0]) (m3 := [0, 4, 0, 0, 0, 0, 0, 0, 0]) (m4 := [0, 2, 1, 0, 0, 0, 0, 0, 0]) (k1 := [2, 0, 0, 0, 0, 0, 0, 0, 0]) (k2 := [2, 0, 0, 0, 0, 0, 0, 0, 0]) (j3 := [2, 0, 0, 0, 0, 0, 0, 0, 0]) (j4 := [2, 1, 1, 0, 0, 0, 0, 0, 0]) (i4 := [2, 1, 1, 0, 0, 0, 0, 0, 0]) hp hz
    (by decide +kernel) (by decide +kernel) (by decide +kernel) (by decide +kernel) (by decide +kernel) (by decide +kernel) (by decide +kernel) (by decide +kernel) (by decide +kernel) (by decide +kernel) (by decide +kernel) (by decide +kernel) (by decide +kernel) (by decide +kernel) (by decide +kernel)
theorem cg_c_11 {post : Int32 → St0 → Prop} {mc ms kc ks : Nat} {z0 z1 : Int32} (hp : post 1 ()) (hz : z1 = z0) : wL_lawOf_127 post mc ms 1 1 1 z0 z1 kc ks 3 0 (cg_f cg_F) (cg_f cg_F) (cg_f cg_Z) (cg_f cg_Z) :=
  cg_T_in (s := 1) (w := 2) (pt' := 5) (g := 1) (e := 2) (m1 := [6, 4, 0, 0, 0, 0, 0, 0, 0]) (m2 := [6, 4, 0, 0, 0, 0, 0, 0, 0]) (m3 := [4, 0, 0, 0, 0, 0, 0, 0, 0]) (m4 := [2, 0, 1, 0, 0, 0, 0, 0, 0]) (k1 := [2, 0, 0, 0, 0, 0, 0, 0, 0]) (k2 := [2, 0, 0, 0, 0, 0, 0, 0, 0]) (j3 := [2, 0, 0, 0, 0, 0, 0, 0, 0]) (j4 := [2, 1, 1, 0, 0, 0, 0, 0, 0]) (i4 := [2, 1, 1, 0, 0, 0, 0, 0, 0]) hp hz
    (by decide +kernel) (by decide +kernel) (by decide +kernel) (by decide +kernel) (by decide +kernel) (by decide +kernel) (by decide +kernel) (by decide +kernel) (by decide +kernel) (by decide +kernel) (by decide +kernel) (by decide +kernel) (by decide +kernel) (by decide +kernel) (by decide +kernel)
theorem cg_c_12 {post : Int32 → St0 → Prop} {mc ms kc ks : Nat} {z0 z1 : Int32} (hp : post 1 ()) (hz : z1 = z0) : wL_lawOf_127 post mc ms 2 1 1 z0 z1 kc ks 3 0 (cg_f cg_F) (cg_f cg_F) (cg_f cg_Z) (cg_f cg_Z) :=
  cg_T_in (s := 1) (w := 2) (pt' := 3) (g := 1) (e := 2) (m1 := [6, 4, 0, 0, 0, 0, 0, 0, 0]) (m2 := [6, 4, 0, 0, 0, 0, 0, 0, 0]) (m3 := [2, 0, 0, 0, 0, 0, 0, 0, 0]) (m4 := [2, 1, 0, 0, 0, 0, 0, 0, 0]) (k1 := [2, 0, 0, 0, 0, 0, 0, 0, 0]) (k2 := [2, 0, 0, 0, 0, 0, 0, 0, 0]) (j3 := [2, 0, 0, 0, 0, 0, 0, 0, 0]) (j4 := [2, 1, 0, 0, 0, 0, 0, 0, 0]) (i4 := [2, 1, 0, 0, 0, 0, 0, 0, 0]) hp hz
    (by decide +kernel) (by decide +kernel) (by decide +kernel) (by decide +kernel) (by decide +kernel) (by decide +kernel) (by decide +kernel) (by decide +kernel) (by decide +kernel) (by decide +kernel) (by decide +kernel) (by decide +kernel) (by decide +kernel) (by decide +kernel) (by decide +kernel)
theorem cg_c_1o {post : Int32 → St0 → Prop} {mc ms kc ks : Nat} {x2 z0 z1 : Int32} (hp : post 1 ()) (hz : z1 = z0) (ht : cg_t 3 x2 = false) : wL_lawOf_127 post mc ms x2 1 0 z0 z1 kc ks 3 0 (cg_f cg_F) (cg_f cg_F) (cg_f cg_Z) (cg_f cg_Z) :=
  cg_T_out (s := 1) (j3 := [2, 4, 0, 0, 0, 0, 0, 0, 0]) (j4 := [3, 2, 1, 0, 0, 0, 0, 0, 0]) (i4 := [3, 2, 1, 0, 0, 0, 0, 0, 0]) hp hz
    (by decide +kernel) (by decide +kernel) (by decide +kernel) (by decide +kernel) ht (by decide +kernel) (by decide +kernel) (by decide +kernel)
end
section
/-! The law from its head: the third call of addOrder, the flags, the script. -/
theorem cg_init {post : St2 → Prop} {mc ms : Nat} (h : 4 ≤ mc) (h' : 36 ≤ ms) (hp : post (3, 0, cg_f cg_Z, cg_f cg_Z, cg_f cg_Z, cg_f cg_Z)) : wpX_init post mc ms (0, 0) 3 := by
  rw [← cg_z] at hp
  unfold wpX_init
  exact ⟨by omega, by omega, by omega, by omega, by omega, by omega, by omega, by omega, br_t (by decide) (br_t (by decide) hp)⟩
theorem cg_54 {post : Int32 → St0 → Prop} {mc ms kc ks : Nat} {x0 x1 x2 x3 x4 z0 r : Int32} {l1 : List Int32} (hm : kc + 5 ≤ mc) (hn : ks + 42 ≤ ms)
    (hadd : ∀ q : Int32 → St2 → Prop, q r (3, 0, cg_f l1, cg_f cg_F, cg_f cg_Z, cg_f cg_Z) → wpX_addOrder q (3, 0, cg_f cg_N, cg_f cg_F, cg_f cg_Z, cg_f cg_Z) x0 x1)
    (h3 : x3 = 0 → r = -1) (h4 : ¬ x3 = 0 → x0 < x1 → x4 = 0 → r = 0) (h5 : ¬ x3 = 0 → x0 < x1 → ¬ x4 = 0 → r = 1) (h6 : ¬ x3 = 0 → ¬ x0 < x1 → r = -4)
    (HT : ∀ (y0 y1 : Int32) (kc ks : Nat), y1 = y0 → wL_lawOf_127 post mc ms x2 x4 z0 y0 y1 kc ks 3 0 (cg_f l1) (cg_f cg_F) (cg_f cg_Z) (cg_f cg_Z)) :
    wL_lawOf_54 post mc ms x0 x1 x2 x3 x4 z0 kc ks := by
  have a1 : cg_addO 3 cg_Z cg_Z 0 1 = some (1, [2, 0, 0, 0, 0, 0, 0, 0, 0], [2, 0, 0, 0, 0, 0, 0, 0, 0]) := by decide +kernel
  have a2 : cg_addO 3 [2, 0, 0, 0, 0, 0, 0, 0, 0] [2, 0, 0, 0, 0, 0, 0, 0, 0] 1 2 = some (1, cg_N, cg_F) := by decide +kernel
  unfold wL_lawOf_54
  refine ⟨by omega, by omega, 4, 36, by omega, by omega, cg_init (by omega) (by omega) ?_⟩
  refine cg_add_w a1 (br_t rfl ?_)
  refine cg_add_w a2 (br_t rfl ?_)
  refine hadd _ ?_
  exact br_c (fun c3 => HT _ _ _ _ (h3 c3)) (fun c3 => br_c (fun c => br_c (fun c4 => HT _ _ _ _ (h4 c3 c c4)) (fun c4 => HT _ _ _ _ (h5 c3 c c4))) (fun c => HT _ _ _ _ (h6 c3 c)))
theorem cg_le3 {x : Int32} : (3 : Int32) ≤ x ↔ 2 < x := by
  rw [Int32.le_iff_toInt_le, Int32.lt_iff_toInt_lt, show (3 : Int32).toInt = 3 by decide, show (2 : Int32).toInt = 2 by decide]
  omega
theorem cg_t1 {x : Int32} (h : ¬ x < 0) (h2 : ¬ 2 < x) : cg_t 3 x = true := by
  unfold cg_t
  rw [decide_eq_true h, decide_eq_true (p := ¬ (3 : Int32) ≤ x) (fun z => h2 (cg_le3.mp z))]
  rfl
theorem cg_t0 {x : Int32} (h : x < 0) : cg_t 3 x = false := by
  unfold cg_t
  rw [decide_eq_false (fun z => z h)]
  rfl
theorem cg_t2 {x : Int32} (h : 2 < x) : cg_t 3 x = false := by
  unfold cg_t
  rw [decide_eq_false (p := ¬ (3 : Int32) ≤ x) (fun z => z (cg_le3.mpr h)), Bool.and_false]
theorem cg_three {x : Int32} (h : cg_t 3 x = true) : x = 0 ∨ x = 1 ∨ x = 2 := by
  unfold cg_t at h
  rw [Bool.and_eq_true] at h
  have h1 : ¬ x < 0 := of_decide_eq_true h.1
  have h2 : ¬ (3 : Int32) ≤ x := of_decide_eq_true h.2
  rw [Int32.lt_iff_toInt_lt, show (0 : Int32).toInt = 0 by decide] at h1
  rw [Int32.le_iff_toInt_le, show (3 : Int32).toInt = 3 by decide] at h2
  have hv : vp_in x 3 := vp_in_iff.mpr ⟨by omega, by omega⟩
  obtain ⟨j, hj, e⟩ := vp_in_of hv (by decide)
  match j, hj with
  | 0, _ => exact Or.inl e
  | 1, _ => exact Or.inr (Or.inl e)
  | 2, _ => exact Or.inr (Or.inr e)
theorem cg_38 {post : Int32 → St0 → Prop} {mc ms kc ks : Nat} {x0 x1 x2 x3 x4 : Int32} (H0 : cg_t 3 x2 = false → wL_lawOf_54 post mc ms x0 x1 x2 x3 x4 0 kc ks) (H1 : cg_t 3 x2 = true → wL_lawOf_54 post mc ms x0 x1 x2 x3 x4 1 kc ks) : wL_lawOf_38 post mc ms x0 x1 x2 x3 x4 kc ks :=
  br_c (fun c => H0 (cg_t0 c)) (fun c => br_c (fun d => H0 (cg_t2 d)) (fun d => H1 (cg_t1 c d)))
theorem cg_38N {post : Int32 → St0 → Prop} {mc ms kc ks : Nat} {x0 x1 x2 x3 r : Int32} (hp : post 1 ()) (hm : kc + 5 ≤ mc) (hn : ks + 42 ≤ ms)
    (hadd : ∀ q : Int32 → St2 → Prop, q r (3, 0, cg_f cg_N, cg_f cg_F, cg_f cg_Z, cg_f cg_Z) → wpX_addOrder q (3, 0, cg_f cg_N, cg_f cg_F, cg_f cg_Z, cg_f cg_Z) x0 x1)
    (h3 : x3 = 0 → r = -1) (h4 : ¬ x3 = 0 → x0 < x1 → r = 0) (h6 : ¬ x3 = 0 → ¬ x0 < x1 → r = -4) : wL_lawOf_38 post mc ms x0 x1 x2 x3 0 kc ks := by
  refine cg_38 (fun t => ?_) (fun t => ?_)
  · exact cg_54 hm hn hadd h3 (fun a b _ => h4 a b) (fun _ _ z => absurd rfl z) h6 (fun _ _ _ _ q => cg_c_0o hp q t)
  · refine cg_54 hm hn hadd h3 (fun a b _ => h4 a b) (fun _ _ z => absurd rfl z) h6 (fun _ _ _ _ q => ?_)
    rcases cg_three t with e | e | e
    · rw [e]
      exact cg_c_00 hp q
    · rw [e]
      exact cg_c_01 hp q
    · rw [e]
      exact cg_c_02 hp q
theorem cg_38F {post : Int32 → St0 → Prop} {mc ms kc ks : Nat} {x2 : Int32} (hp : post 1 ()) (hm : kc + 5 ≤ mc) (hn : ks + 42 ≤ ms) : wL_lawOf_38 post mc ms 0 2 x2 1 1 kc ks := by
  have a : cg_addO 3 cg_N cg_F 0 2 = some (1, cg_F, cg_F) := by decide +kernel
  have hadd : ∀ q : Int32 → St2 → Prop, q 1 (3, 0, cg_f cg_F, cg_f cg_F, cg_f cg_Z, cg_f cg_Z) → wpX_addOrder q (3, 0, cg_f cg_N, cg_f cg_F, cg_f cg_Z, cg_f cg_Z) 0 2 := fun q hq => cg_add_w a hq
  refine cg_38 (fun t => ?_) (fun t => ?_)
  · exact cg_54 hm hn hadd (by decide) (by decide) (by decide) (by decide) (fun _ _ _ _ q => cg_c_1o hp q t)
  · refine cg_54 hm hn hadd (by decide) (by decide) (by decide) (by decide) (fun _ _ _ _ q => ?_)
    rcases cg_three t with e | e | e
    · rw [e]
      exact cg_c_10 hp q
    · rw [e]
      exact cg_c_11 hp q
    · rw [e]
      exact cg_c_12 hp q
/-- the first two ints don't name two tasks -/
theorem cg_23o {post : Int32 → St0 → Prop} {mc ms kc ks : Nat} {x0 x1 x2 : Int32} (hp : post 1 ()) (hm : kc + 5 ≤ mc) (hn : ks + 42 ≤ ms) (h : cg_t 3 x0 = true → cg_t 3 x1 = false) : wL_lawOf_23 post mc ms x0 x1 x2 0 kc ks := by
  have H : wL_lawOf_38 post mc ms x0 x1 x2 0 0 kc ks := cg_38N (r := -1) hp hm hn (fun q hq => cg_add_bad h hq) (fun _ => rfl) (fun z => absurd rfl z) (fun z => absurd rfl z)
  refine br_c (fun c => br_c (fun d => ?_) (fun _ => H)) (fun _ => H)
  rw [c, d] at h
  exact absurd (h (by decide)) (by decide)
/-- they name two tasks -/
theorem cg_23i {post : Int32 → St0 → Prop} {mc ms kc ks : Nat} {x0 x1 x2 : Int32} (hp : post 1 ()) (hm : kc + 5 ≤ mc) (hn : ks + 42 ≤ ms) (h0 : cg_t 3 x0 = true) (h1 : cg_t 3 x1 = true) : wL_lawOf_23 post mc ms x0 x1 x2 1 kc ks := by
  have G : ∀ (y0 y1 r : Int32), cg_addO 3 cg_N cg_F y0 y1 = some (r, cg_N, cg_F) → (y0 < y1 → r = 0) → (¬ y0 < y1 → r = -4) → wL_lawOf_38 post mc ms y0 y1 x2 1 0 kc ks := fun y0 y1 r a g0 g1 =>
    cg_38N (r := r) hp hm hn (fun q hq => cg_add_w a hq) (fun z => absurd z (by decide)) (fun _ => g0) (fun _ => g1)
  rcases cg_three h0 with e | e | e
  · rw [e]
    rcases cg_three h1 with g | g | g
    · rw [g]
      exact br_t rfl (br_f (by decide) (G 0 0 (-4) (by decide +kernel) (by decide) (by decide)))
    · rw [g]
      exact br_t rfl (br_f (by decide) (G 0 1 0 (by decide +kernel) (by decide) (by decide)))
    · rw [g]
      exact br_t rfl (br_t rfl (cg_38F hp hm hn))
  · rw [e]
    rcases cg_three h1 with g | g | g
    · rw [g]
      exact br_f (by decide) (G 1 0 (-4) (by decide +kernel) (by decide) (by decide))
    · rw [g]
      exact br_f (by decide) (G 1 1 (-4) (by decide +kernel) (by decide) (by decide))
    · rw [g]
      exact br_f (by decide) (G 1 2 0 (by decide +kernel) (by decide) (by decide))
  · rw [e]
    rcases cg_three h1 with g | g | g
    · rw [g]
      exact br_f (by decide) (G 2 0 (-4) (by decide +kernel) (by decide) (by decide))
    · rw [g]
      exact br_f (by decide) (G 2 1 (-4) (by decide +kernel) (by decide) (by decide))
    · rw [g]
      exact br_f (by decide) (G 2 2 (-4) (by decide +kernel) (by decide) (by decide))
theorem cg_law {post : Int32 → St0 → Prop} (hp : post 1 ()) (p0 p1 p2 : Int32) : wpL_lawOf post 30 480 () p0 p1 p2 := by
  have B : (cg_t 3 p0 = true → cg_t 3 p1 = false) → wL_lawOf_22 post 30 480 p0 p1 p2 0 0 := fun h => cg_23o hp (by decide) (by decide) h
  have no : ∀ {b : Bool}, b = false → b = true → cg_t 3 p1 = false := fun z w => absurd (z.symm.trans w) (by decide)
  exact br_c (fun c => B (no (cg_t0 c))) (fun c => br_c (fun d => B (no (cg_t2 d))) (fun d => br_c (fun c1 => B (fun _ => cg_t0 c1)) (fun c1 => br_c (fun d1 => B (fun _ => cg_t2 d1)) (fun d1 => cg_23i hp (by decide) (by decide) (cg_t1 c d) (cg_t1 c1 d1)))))
theorem cg_cell {post : Int32 → Prop} {L : Nat} {xs : Nat → Int32} {u : St0} {p : Int32} (hin : ¬ Int32.ofNat L ≤ p → 0 ≤ p.toInt ∧ p.toInt < (L : Int)) (H : ∀ x, post x) : wpL_cellAt post L xs u p :=
  br_c (fun _ => H 0) (fun c => And.intro (vp_in_iff.mpr (hin c)) (H _))
theorem cg_c0 : ∀ L, L < 4 → ¬ Int32.ofNat L ≤ 0 → 0 ≤ (0 : Int32).toInt ∧ (0 : Int32).toInt < (L : Int) := by decide
theorem cg_c1 : ∀ L, L < 4 → ¬ Int32.ofNat L ≤ 1 → 0 ≤ (1 : Int32).toInt ∧ (1 : Int32).toInt < (L : Int) := by decide
theorem cg_c2i : ∀ L, L < 4 → ¬ Int32.ofNat L ≤ 2 → 0 ≤ (2 : Int32).toInt ∧ (2 : Int32).toInt < (L : Int) := by decide
end
section
theorem i_vc (xs : Nat → Int32) (L : Nat) (hL : L ≤ 3) : wpL_law (fun r => r = 1) L xs := by
  unfold wpL_law
  refine cg_cell (cg_c0 L (by omega)) (fun r1 => ?_)
  refine cg_cell (cg_c1 L (by omega)) (fun r2 => ?_)
  refine cg_cell (cg_c2i L (by omega)) (fun r3 => ?_)
  exact ⟨30, 480, by decide, by decide, cg_law rfl r1 r2 r3⟩
end
