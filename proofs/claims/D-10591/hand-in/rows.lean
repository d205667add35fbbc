section
/-- an int of a boolean, a long of a boolean -/
def ru_b (q : Bool) : Int32 := cond q 1 0
def ru_L (q : Bool) : Int64 := cond q 1 0
/-- what a loop holds at turn i when place p alone may change it -/
def ru_acc (p : Nat) (q : Bool) (v z : Int32) (i : Nat) : Int32 := if p < i ∧ q = true then v else z
theorem ru_acc_lo {p i : Nat} {q : Bool} {v z : Int32} (h : i ≤ p) : ru_acc p q v z i = z := if_neg (fun t => absurd t.1 (by omega))
theorem ru_acc_hi {p i : Nat} {q : Bool} {v z : Int32} (h : p < i) : ru_acc p q v z i = cond q v z := by
  unfold ru_acc
  cases q
  · exact if_neg (fun t => Bool.false_ne_true t.2)
  · exact if_pos ⟨h, rfl⟩
theorem ru_acc_nx {p i : Nat} {q : Bool} {v z : Int32} (h : ¬ (i = p ∧ q = true)) : ru_acc p q v z (i + 1) = ru_acc p q v z i := by
  unfold ru_acc
  by_cases e : i = p
  · have hq : ¬ q = true := fun t => h ⟨e, t⟩
    rw [if_neg (fun t => hq t.2), if_neg (fun t => hq t.2)]
  · by_cases g : p < i ∧ q = true
    · rw [if_pos g, if_pos ⟨Nat.lt_succ_of_lt g.1, g.2⟩]
    · rw [if_neg g, if_neg (fun t => g ⟨by have := t.1; omega, t.2⟩)]
theorem ru_acc_at {p i : Nat} {q : Bool} {v z : Int32} (e : i = p) (hq : q = true) : ru_acc p q v z (i + 1) = v := if_pos ⟨by omega, hq⟩
theorem ru_st0 {p i : Nat} {q : Bool} {v z s : Int32} (h : s = ru_acc p q v z i) (hn : ¬ (i = p ∧ q = true)) : s + 0 = ru_acc p q v z (i + 1) := by
  rw [ru_acc_nx hn, ← h, Int32.add_zero]
theorem ru_st3 {p i : Nat} {q : Bool} {v z s : Int32} (h : s = ru_acc p q v z i) (hn : ¬ (i = p ∧ q = true)) : s = ru_acc p q v z (i + 1) := by
  rw [ru_acc_nx hn]
  exact h
theorem ru_st1 {i : Nat} {q : Bool} {s : Int32} {a : Nat → Int32} (h : s = ru_acc 40 q (a 40) 0 i) (e : i = 40) (hq : q = true) : s + a (nI i).toNatClampNeg = ru_acc 40 q (a 40) 0 (i + 1) := by
  subst e
  rw [ru_acc_at rfl hq, h, ru_acc_lo (Nat.le_refl 40), nI_clamp (by omega), Int32.zero_add]
theorem ru_st2 {i : Nat} {q : Bool} {z : Int32} {a : Nat → Int32} (e : i = 40) (hq : q = true) : a (nI i).toNatClampNeg = ru_acc 40 q (a 40) z (i + 1) := by
  subst e
  rw [ru_acc_at rfl hq, nI_clamp (by omega)]
theorem ru_stz {p i : Nat} {q : Bool} {v z s : Int32} (h : s = ru_acc p q v z i) (e : i = p) : s = z := by
  rw [h, ru_acc_lo (by omega)]
/-- passing: only row 40, and only when q -/
theorem ru_passing {post : Int32 → Prop} {o k : Nat} {q : Bool} {e : Int32} {cp : Int64} {a1 a2 a3 a4 a5 : Nat → Int32} {a6 a7 a8 : Nat → Int64} (ho : o ≤ 1) (hq : q = true → o = 1) (hk : k < 80) (h1 : k = 40 → q = true → post 1) (h0 : ¬ (k = 40 ∧ q = true) → post 0) : wpX_passing post (0, nI o, e, cp, ru_L q, a1, a2, a3, a4, a5, a6, a7, a8) (nI k) := by
  refine pk_le 40 k (fun z => ?_) (fun z => ?_)
  · refine pk_le (40 + o) k (fun y => h0 (fun t => ?_)) (fun y => ?_) (nI_add 40 o)
    · have t1 := t.1
      have t2 := hq t.2
      omega
    · have e1 : k = 40 := by omega
      subst e1
      cases q
      · exact br_t (by decide +kernel) (h0 (fun t => Bool.false_ne_true t.2))
      · exact br_f (by decide +kernel) (h1 rfl rfl)
  · exact pk_le 0 k (fun _ => h0 (fun t => by have := t.1; omega)) (fun y => absurd y (by omega))
/-- what the mode makes of the two sets -/
def ru_set (m : Nat) (a b : Bool) : Bool := match m with
  | 0 => a && b
  | 1 => a || b
  | 2 => !(a && b)
  | _ => !(a || b)
/-- the hours of a filter -/
def ru_hk (f x : Int32) : Bool := decide (¬ x < ((f >>> ((10 : Int32) &&& 31)) &&& 15) ∧ ¬ (f >>> ((14 : Int32) &&& 31)) < x)
theorem ru_hk_1 {f x : Int32} (h : x < ((f >>> ((10 : Int32) &&& 31)) &&& 15)) : ru_hk f x = false := decide_eq_false (fun t => t.1 h)
theorem ru_hk_2 {f x : Int32} (h : (f >>> ((14 : Int32) &&& 31)) < x) : ru_hk f x = false := decide_eq_false (fun t => t.2 h)
theorem ru_hk_3 {f x : Int32} (h : ¬ x < ((f >>> ((10 : Int32) &&& 31)) &&& 15)) (h' : ¬ (f >>> ((14 : Int32) &&& 31)) < x) : ru_hk f x = true := decide_eq_true ⟨h, h'⟩
theorem ru_88 {post : Int32 → Prop} {f x : Int32} {m : Nat} {r : Bool} (w : Bool) (hm : m < 4) (er : r = (w == decide (m < 2))) (H : post (ru_b (r && ru_hk f x))) : wX_passes_88 post f x (nI m) (ru_b w) := by
  subst er
  refine br_c (fun h => ?_) (fun h => br_c (fun h' => ?_) (fun h' => ?_))
  · rw [ru_hk_1 h, Bool.and_false] at H
    exact H
  · rw [ru_hk_2 h', Bool.and_false] at H
    exact H
  · rw [ru_hk_3 h h', Bool.and_true] at H
    refine pk_le 2 m (fun z => ?_) (fun z => ?_)
    · rw [decide_eq_false (show ¬ m < 2 by omega)] at H
      cases w
      · exact br_t rfl H
      · exact br_f (by decide) H
    · rw [decide_eq_true (show m < 2 from z)] at H
      cases w
      · exact br_f (by decide) H
      · exact br_t rfl H
theorem ru_40 {post : Int32 → Prop} {f x : Int32} {m : Nat} {a b : Bool} (hm : m < 4) (eM : (f >>> ((8 : Int32) &&& 31)) &&& 3 = nI m) (H : post (ru_b (ru_set m a b && ru_hk f x))) : wX_passes_40 post f x (ru_b a) (ru_b b) := by
  refine nm_r eM ?_
  have hm' : m = 0 ∨ m = 1 ∨ m = 2 ∨ m = 3 := by omega
  rcases hm' with rfl | rfl | rfl | rfl
  · refine br_t (by decide) ?_
    cases a
    · exact br_t rfl (ru_88 false (by decide) (by cases b <;> decide) H)
    · cases b
      · exact br_f (by decide) (br_t rfl (ru_88 false (by decide) (by decide) H))
      · exact br_f (by decide) (br_f (by decide) (ru_88 true (by decide) (by decide) H))
  · refine br_f (by decide) ?_
    cases a
    · cases b
      · exact br_t rfl (br_t rfl (ru_88 false (by decide) (by decide) H))
      · exact br_t rfl (br_f (by decide) (ru_88 true (by decide) (by decide) H))
    · exact br_f (by decide) (ru_88 true (by decide) (by cases b <;> decide) H)
  · refine br_t (by decide) ?_
    cases a
    · exact br_t rfl (ru_88 false (by decide) (by cases b <;> decide) H)
    · cases b
      · exact br_f (by decide) (br_t rfl (ru_88 false (by decide) (by decide) H))
      · exact br_f (by decide) (br_f (by decide) (ru_88 true (by decide) (by decide) H))
  · refine br_f (by decide) ?_
    cases a
    · cases b
      · exact br_t rfl (br_t rfl (ru_88 false (by decide) (by decide) H))
      · exact br_t rfl (br_f (by decide) (ru_88 true (by decide) (by decide) H))
    · exact br_f (by decide) (ru_88 true (by decide) (by cases b <;> decide) H)
theorem ru_21 {post : Int32 → Prop} {f key x z : Int32} {b : Bool} (eb : (f >>> ((4 + (key >>> ((6 : Int32) &&& 31))) &&& 31)) &&& 1 = ru_b b) (K : wX_passes_40 post f x z (ru_b b)) : wX_passes_21 post f key x z := by
  cases b
  · exact br_t eb K
  · exact br_f (fun t => absurd (eb.symm.trans t) (by decide)) K
theorem ru_passes {post : Int32 → Prop} {f key : Int32} {m : Nat} {a b : Bool} (hm : m < 4) (eM : (f >>> ((8 : Int32) &&& 31)) &&& 3 = nI m)
    (ea : (f >>> (((key >>> ((4 : Int32) &&& 31)) &&& 3) &&& 31)) &&& 1 = ru_b a) (eb : (f >>> ((4 + (key >>> ((6 : Int32) &&& 31))) &&& 31)) &&& 1 = ru_b b)
    (H : post (ru_b (ru_set m a b && ru_hk f (key &&& 15)))) : wpX_passes post () f key := by
  cases a
  · exact br_t ea (ru_21 eb (ru_40 hm eM H))
  · exact br_f (fun t => absurd (ea.symm.trans t) (by decide)) (ru_21 eb (ru_40 hm eM H))
end
section
section
variable {c o9 e : Int32} {cp op : Int64} {a1 a2 a3 a4 a5 : Nat → Int32} {a6 a7 a8 : Nat → Int64}
theorem ru_fl {f : Int32} (h0 : ¬ f < 0) (h1 : ¬ 262144 ≤ f) : ∃ F : Nat, F < 262144 ∧ f = nI F := by
  obtain ⟨j, hj, rfl⟩ := nI_of h0
  exact ⟨j, Nat.lt_of_not_le (fun z => h1 (nI_le z hj)), rfl⟩
theorem ru_lo {F : Nat} (h : F < 262144) : (nI F >>> ((10 : Int32) &&& 31)) &&& 15 = nI (F / 2 ^ 10 % 2 ^ 4) := by
  rw [pk_shrN (n := F) (by omega) ((10 : Int32) &&& 31) 10 (by decide), pk_andN (n := F / 2 ^ 10) (by omega) (m := 15) 4 (by decide)]
theorem ru_hi {F : Nat} (h : F < 262144) : nI F >>> ((14 : Int32) &&& 31) = nI (F / 2 ^ 14) :=
  pk_shrN (n := F) (by omega) ((14 : Int32) &&& 31) 14 (by decide)
theorem ru_143 {post : St2 → Prop} {x6 z0 : Int64} {x10 : Int32} (H : ∀ cp', post (c, o9, e, cp', op, a1, a2, a3, a4, a5, a6, a7, a8)) : wX_selectClosed_143 post x6 x10 z0 c o9 e cp op a1 a2 a3 a4 a5 a6 a7 a8 :=
  br_c (fun _ => nm_e (H _)) (fun _ => nm_e (H _))
theorem ru_92 {post : St2 → Prop} {f : Int32} {x2 x4 x6 : Int64} {l hi : Nat} (hl : l < 16) (hh : hi < 16) (H : ∀ cp', post (c, o9, e, cp', op, a1, a2, a3, a4, a5, a6, a7, a8)) : ∃ n, wX_selectClosed_92 post f x2 x4 (nI hi) c o9 e cp op a1 a2 a3 a4 a5 a6 a7 a8 n x6 (nI l) :=
  pk_loop (fun n i s => wX_selectClosed_92 post f x2 x4 (nI hi) c o9 e cp op a1 a2 a3 a4 a5 a6 a7 a8 n s (nI i)) (fun i _ => l ≤ i) (l + (hi + 1 - l)) l x6 (by omega) (Nat.le_refl l)
    (fun n s h => pk_lt hi (l + (hi + 1 - l)) (fun _ => nm_e (br_c (fun _ => ru_143 H) (fun _ => ru_143 H))) (fun z => absurd z (by omega)))
    (fun n i s hi' (h : l ≤ i) hw => pk_lt hi i (fun z => absurd z (by omega)) (fun z => ⟨pk_in i 16 (by omega), nm_e (nm_r (nI_1 i) (hw _ (show l ≤ i + 1 by omega)))⟩))
theorem ru_38 {post : St2 → Prop} {J : Int64 → Int64 → Int32 → Prop} {f : Int32} {x4 x6 z0 z1 : Int64} {i : Nat} (hi : i < 4) (HJ : ∀ a b, J a b (nI (i + 1))) : wX_selectClosed_38 post J f x4 x6 (nI i) z0 z1 c o9 e cp op a1 a2 a3 a4 a5 a6 a7 a8 :=
  nm_e (br_c (fun _ => nm_e (nm_r (nI_1 i) (HJ _ _))) (fun _ => ⟨pk_in i 4 hi, nm_e (nm_r (nI_1 i) (HJ _ _))⟩))
theorem ru_11 {post : St2 → Prop} {F : Nat} (hF : F < 262144) (H : ∀ cp', post (c, o9, e, cp', op, a1, a2, a3, a4, a5, a6, a7, a8)) : ∃ n, wX_selectClosed_11 post (nI F) 0 c o9 e cp op a1 a2 a3 a4 a5 a6 a7 a8 n 0 0 0 :=
  pk_loop (σ := Int64 × Int64) (fun n i s => wX_selectClosed_11 post (nI F) 0 c o9 e cp op a1 a2 a3 a4 a5 a6 a7 a8 n s.1 s.2 (nI i)) (fun _ _ => True) 4 0 (0, 0) (by omega) trivial
    (fun n s _ => pk_le 4 4 (fun _ => nm_r (ru_lo hF) (nm_r (ru_hi hF) (ru_92 (by omega) (by omega) H))) (fun z => absurd z (by omega)))
    (fun n i s hi _ hw => pk_le 4 i (fun z => absurd z (by omega)) (fun _ => br_c (fun _ => ru_38 hi (fun a b => hw (a, b) trivial)) (fun _ => ⟨pk_in i 4 hi, ru_38 hi (fun a b => hw (a, b) trivial)⟩)))
theorem ru_selC {post : St2 → Prop} {f : Int32} (hf0 : ¬ f < 0) (hf1 : ¬ 262144 ≤ f) (H : ∀ cp', post (c, o9, e, cp', op, a1, a2, a3, a4, a5, a6, a7, a8)) : wpX_selectClosed post (c, o9, e, cp, op, a1, a2, a3, a4, a5, a6, a7, a8) f := by
  obtain ⟨F, hF, rfl⟩ := ru_fl hf0 hf1
  exact ru_11 hF H
theorem ru_s21 {post : Int32 → St2 → Prop} {o : Nat} {q : Bool} {f : Int32} (ho : o ≤ 1) (hq : q = true → o = 1) (hp : o = 1 → ∀ ψ : Int32 → Prop, ψ (ru_b q) → wpX_passes ψ () f (a1 40))
    (H : post 1 (0, nI o, e, cp, ru_L q, a1, a2, a3, a4, a5, a6, a7, a8)) : ∃ n, wX_select_21 post f 0 (nI o) e cp a1 a2 a3 a4 a5 a6 a7 a8 n 0 0 := by
  have ho' : o = 0 ∨ o = 1 := by omega
  rcases ho' with rfl | rfl
  · have e0 : q = false := by
      cases q
      · rfl
      · exact absurd (hq rfl) (by decide)
    subst e0
    exact ⟨Nat.succ 0, pk_le 0 0 (fun _ => H) (fun z => absurd z (by omega))⟩
  · refine ⟨Nat.succ (Nat.succ 0), pk_le 1 0 (fun z => absurd z (by omega)) (fun _ => ⟨pk_in 40 80 (by omega) (by decide), ?_⟩)⟩
    rw [show ((40 : Int32) + 0).toNatClampNeg = 40 by decide]
    refine hp rfl _ ?_
    cases q
    · exact br_t rfl (nm_r (show (0 : Int32) + 1 = nI 1 by decide) (pk_le 1 1 (fun _ => H) (fun z => absurd z (by omega))))
    · exact br_f (by decide) (nm_r (show (0 : Int64) ||| ((1 : Int64) <<< ((0 : Int32).toInt64 &&& 63)) = 1 by decide +kernel) (nm_r (show (0 : Int32) + 1 = nI 1 by decide) (pk_le 1 1 (fun _ => H) (fun z => absurd z (by omega)))))
/-- s says whether f is a filter -/
def ru_is (f : Int32) (s : Bool) : Prop := (s = true ∧ ¬ f < 0 ∧ ¬ 262144 ≤ f) ∨ (s = false ∧ (f < 0 ∨ 262144 ≤ f))
theorem ru_selY {post : Int32 → St2 → Prop} {o : Nat} {q : Bool} {f : Int32} (ho : o ≤ 1) (hq : q = true → o = 1) (hp : o = 1 → ∀ ψ : Int32 → Prop, ψ (ru_b q) → wpX_passes ψ () f (a1 40))
    (hf0 : ¬ f < 0) (hf1 : ¬ 262144 ≤ f) (H : ∀ cp', post 1 (0, nI o, e, cp', ru_L q, a1, a2, a3, a4, a5, a6, a7, a8)) : wpX_select post (0, nI o, e, cp, op, a1, a2, a3, a4, a5, a6, a7, a8) f := by
  unfold wpX_select
  exact br_f hf0 (br_f hf1 (br_f (by decide) (ru_selC hf0 hf1 (fun cp' => ru_s21 ho hq hp (H cp')))))
theorem ru_selN {post : Int32 → St2 → Prop} {f : Int32} (hf : f < 0 ∨ 262144 ≤ f) (H : post 0 (c, o9, e, cp, op, a1, a2, a3, a4, a5, a6, a7, a8)) : wpX_select post (c, o9, e, cp, op, a1, a2, a3, a4, a5, a6, a7, a8) f := by
  unfold wpX_select
  by_cases h : f < 0
  · exact br_t h (br_t rfl H)
  · exact br_f h (br_t (hf.resolve_left h) (br_t rfl H))
theorem ru_sel {post : Int32 → St2 → Prop} {o : Nat} {q s : Bool} {f : Int32} (hs : ru_is f s) (ho : o ≤ 1) (hq : q = true → o = 1) (hp : o = 1 → ∀ ψ : Int32 → Prop, ψ (ru_b q) → wpX_passes ψ () f (a1 40))
    (H : ∀ cp' op', (s = true → op' = ru_L q) → post (ru_b s) (0, nI o, e, cp', op', a1, a2, a3, a4, a5, a6, a7, a8)) : wpX_select post (0, nI o, e, cp, op, a1, a2, a3, a4, a5, a6, a7, a8) f := by
  rcases hs with ⟨rfl, h0, h1⟩ | ⟨rfl, h⟩
  · exact ru_selY ho hq hp h0 h1 (fun cp' => H cp' _ (fun _ => rfl))
  · exact ru_selN h (H _ _ (fun t => absurd t (by decide)))
end
end
section
section
variable {e : Int32} {cp op : Int64} {a1 a2 a3 a4 a5 : Nat → Int32} {a6 a7 a8 : Nat → Int64}
theorem ru_cnt {post : Int32 → St2 → Prop} {o : Nat} {q : Bool} (ho : o ≤ 1) (hq : q = true → o = 1) (H : post (cond q (a2 40) 0) (0, nI o, e, cp, ru_L q, a1, a2, a3, a4, a5, a6, a7, a8)) : ∃ n, wX_count_14 post 0 (nI o) e cp (ru_L q) a1 a2 a3 a4 a5 a6 a7 a8 n 0 0 :=
  pk_loop (σ := Int32) (fun n i s => wX_count_14 post 0 (nI o) e cp (ru_L q) a1 a2 a3 a4 a5 a6 a7 a8 n s (nI i)) (fun i s => s = ru_acc 40 q (a2 40) 0 i) 80 0 0 (by omega) (ru_acc_lo (by omega)).symm
    (fun n s h => pk_le 80 80 (fun _ => by
        have h' : s = cond q (a2 40) 0 := Eq.trans h (ru_acc_hi (by omega))
        rw [h']
        exact H) (fun z => absurd z (by omega)))
    (fun n i s hi h hw => pk_le 80 i (fun z => absurd z (by omega)) (fun _ => ru_passing ho hq hi
      (fun e1 e2 => br_f (by decide) ⟨pk_in i 80 hi, nm_e (nm_r (nI_1 i) (hw _ (ru_st1 h e1 e2)))⟩)
      (fun hn => br_t rfl (nm_e (nm_r (nI_1 i) (hw _ (ru_st0 h hn)))))))
theorem ru_count {post : Int32 → St2 → Prop} {o : Nat} {q s : Bool} {f : Int32} (hs : ru_is f s) (ho : o ≤ 1) (hq : q = true → o = 1) (hp : o = 1 → ∀ ψ : Int32 → Prop, ψ (ru_b q) → wpX_passes ψ () f (a1 40))
    (H : ∀ cp' op', post (cond s (cond q (a2 40) 0) (-1)) (0, nI o, e, cp', op', a1, a2, a3, a4, a5, a6, a7, a8)) : wpX_count post (0, nI o, e, cp, op, a1, a2, a3, a4, a5, a6, a7, a8) f := by
  unfold wpX_count
  refine ru_sel hs ho hq hp (fun cp' op' hop => ?_)
  cases s
  · exact br_t rfl (H cp' op')
  · have h9 := hop rfl
    subst h9
    exact br_f (by decide) (ru_cnt ho hq (H cp' _))
theorem ru_sm {post : Int32 → St2 → Prop} {o : Nat} {q : Bool} (ho : o ≤ 1) (hq : q = true → o = 1) (H : post (cond q (a3 40) 0) (0, nI o, e, cp, ru_L q, a1, a2, a3, a4, a5, a6, a7, a8)) : ∃ n, wX_sum_15 post 0 (nI o) e cp (ru_L q) a1 a2 a3 a4 a5 a6 a7 a8 n 0 0 :=
  pk_loop (σ := Int32) (fun n i s => wX_sum_15 post 0 (nI o) e cp (ru_L q) a1 a2 a3 a4 a5 a6 a7 a8 n s (nI i)) (fun i s => s = ru_acc 40 q (a3 40) 0 i) 80 0 0 (by omega) (ru_acc_lo (by omega)).symm
    (fun n s h => pk_le 80 80 (fun _ => by
        have h' : s = cond q (a3 40) 0 := Eq.trans h (ru_acc_hi (by omega))
        rw [h']
        exact H) (fun z => absurd z (by omega)))
    (fun n i s hi h hw => pk_le 80 i (fun z => absurd z (by omega)) (fun _ => ru_passing ho hq hi
      (fun e1 e2 => br_f (by decide) ⟨pk_in i 80 hi, nm_e (nm_r (nI_1 i) (hw _ (ru_st1 h e1 e2)))⟩)
      (fun hn => br_t rfl (nm_e (nm_r (nI_1 i) (hw _ (ru_st0 h hn)))))))
theorem ru_sum {post : Int32 → St2 → Prop} {o : Nat} {q s : Bool} {f : Int32} (hs : ru_is f s) (ho : o ≤ 1) (hq : q = true → o = 1) (hp : o = 1 → ∀ ψ : Int32 → Prop, ψ (ru_b q) → wpX_passes ψ () f (a1 40))
    (H : ∀ cp' op', post (cond s (cond q (a3 40) 0) (-1000000)) (0, nI o, e, cp', op', a1, a2, a3, a4, a5, a6, a7, a8)) : wpX_sum post (0, nI o, e, cp, op, a1, a2, a3, a4, a5, a6, a7, a8) f := by
  unfold wpX_sum
  refine ru_sel hs ho hq hp (fun cp' op' hop => ?_)
  cases s
  · exact br_t rfl (H cp' op')
  · have h9 := hop rfl
    subst h9
    exact br_f (by decide) (ru_sm ho hq (H cp' _))
theorem ru_lst {post : Int32 → St2 → Prop} {o : Nat} {q : Bool} (ho : o ≤ 1) (hq : q = true → o = 1) (H : post (cond q (a4 40) (-1000000)) (0, nI o, e, cp, ru_L q, a1, a2, a3, a4, a5, a6, a7, a8)) : ∃ n, wX_least_12 post 1 0 (nI o) e cp (ru_L q) a1 a2 a3 a4 a5 a6 a7 a8 n (-1000000) 0 :=
  pk_loop (σ := Int32) (fun n i s => wX_least_12 post 1 0 (nI o) e cp (ru_L q) a1 a2 a3 a4 a5 a6 a7 a8 n s (nI i)) (fun i s => s = ru_acc 40 q (a4 40) (-1000000) i) 80 0 (-1000000) (by omega) (ru_acc_lo (by omega)).symm
    (fun n s h => pk_le 80 80 (fun _ => by
        have h' : s = cond q (a4 40) (-1000000) := Eq.trans h (ru_acc_hi (by omega))
        rw [h']
        exact H) (fun z => absurd z (by omega)))
    (fun n i s hi h hw => pk_le 80 i (fun z => absurd z (by omega)) (fun _ => br_f (by decide) (ru_passing ho hq hi
      (fun e1 e2 => br_f (by decide) (br_t (ru_stz h e1) ⟨pk_in i 80 hi, nm_e (nm_r (nI_1 i) (hw _ (ru_st2 e1 e2)))⟩))
      (fun hn => br_t rfl (nm_r (nI_1 i) (hw _ (ru_st3 h hn)))))))
theorem ru_least {post : Int32 → St2 → Prop} {o : Nat} {q s : Bool} {f : Int32} (hs : ru_is f s) (ho : o ≤ 1) (hq : q = true → o = 1) (hp : o = 1 → ∀ ψ : Int32 → Prop, ψ (ru_b q) → wpX_passes ψ () f (a1 40))
    (H : ∀ cp' op', post (cond s (cond q (a4 40) (-1000000)) (-1000000)) (0, nI o, e, cp', op', a1, a2, a3, a4, a5, a6, a7, a8)) : wpX_least post (0, nI o, e, cp, op, a1, a2, a3, a4, a5, a6, a7, a8) f := by
  unfold wpX_least
  refine ru_sel hs ho hq hp (fun cp' op' hop => ?_)
  cases s
  · exact Exists.intro (Nat.succ 0) (pk_le 80 0 (fun z => absurd z (by omega)) (fun _ => br_t rfl (H cp' op')))
  · have h9 := hop rfl
    subst h9
    exact ru_lst ho hq (H cp' _)
theorem ru_sx {post : Int32 → Prop} {w : Bool} {x3 x4 v : Int32} (h1 : x3 = cond w 1 0) (h2 : x4 = cond w v 0) (H : post (cond w v (-1000000))) : (x3 = 0 → post (-1000000)) ∧ (¬ x3 = 0 → post x4) := by
  subst h1
  subst h2
  cases w
  · exact br_t rfl H
  · exact br_f (by decide) H
theorem ru_sumOf {post : Int32 → Prop} {o : Nat} {q : Bool} {v : Int32} (ho : o ≤ 1) (hq : q = true → o = 1) (H : post (cond (q && decide (a1 40 &&& 15 = v)) (a3 40) (-1000000))) : wpX_sumOf post (0, nI o, e, cp, ru_L q, a1, a2, a3, a4, a5, a6, a7, a8) 0 v := by
  refine pk_loop (σ := Int32 × Int32) (fun n i s => wX_sumOf_8 post 0 v 0 (nI o) e cp (ru_L q) a1 a2 a3 a4 a5 a6 a7 a8 n s.1 s.2 (nI i)) (fun i s => s.1 = ru_acc 40 (q && decide (a1 40 &&& 15 = v)) 1 0 i ∧ s.2 = ru_acc 40 (q && decide (a1 40 &&& 15 = v)) (a3 40) 0 i) 80 0 (0, 0) (by omega) ⟨(ru_acc_lo (by omega)).symm, (ru_acc_lo (by omega)).symm⟩
    (fun n s h => pk_le 80 80 (fun _ => ru_sx (Eq.trans h.1 (ru_acc_hi (by omega))) (Eq.trans h.2 (ru_acc_hi (by omega))) H) (fun z => absurd z (by omega)))
    (fun n i s hi h hw => pk_le 80 i (fun z => absurd z (by omega)) (fun _ => ru_passing ho hq hi (fun e1 e2 => ?_) (fun hn => ?_)))
  · subst e1
    subst e2
    refine br_f (by decide) ⟨pk_in 40 80 hi, br_t rfl ?_⟩
    refine br_c (fun hv => ⟨pk_in 40 80 hi, nm_e (nm_r (nI_1 40) (hw (1, _) ⟨?_, ?_⟩))⟩) (fun hv => nm_r (nI_1 40) (hw s ⟨?_, ?_⟩))
    · rw [nI_clamp (by omega)] at hv
      exact (ru_acc_at rfl (by rw [decide_eq_true hv]; rfl)).symm
    · have hv' := hv
      rw [nI_clamp (by omega)] at hv'
      have hd : (true && decide (a1 40 &&& 15 = v)) = true := by rw [decide_eq_true hv']; rfl
      show s.2 + a3 (nI 40).toNatClampNeg = _
      rw [nI_clamp (by omega), ru_acc_at rfl hd, h.2, ru_acc_lo (Nat.le_refl 40), Int32.zero_add]
    · rw [nI_clamp (by omega)] at hv
      exact ru_st3 h.1 (fun t => absurd t.2 (by rw [decide_eq_false hv]; decide))
    · rw [nI_clamp (by omega)] at hv
      exact ru_st3 h.2 (fun t => absurd t.2 (by rw [decide_eq_false hv]; decide))
  · have hn' : ¬ (i = 40 ∧ (q && decide (a1 40 &&& 15 = v)) = true) := by
      intro t
      cases q
      · exact absurd t.2 (by rw [Bool.false_and]; decide)
      · exact hn ⟨t.1, rfl⟩
    exact br_t rfl (nm_r (nI_1 i) (hw s ⟨ru_st3 h.1 hn', ru_st3 h.2 hn'⟩))
theorem ru_z : ∀ i, i < 16 → ((0 : Int32) >>> (nI i &&& 31)) &&& 1 = 0 := by decide +kernel
theorem ru_v {q : Bool} {h i : Nat} {x y : Int32} (hh : h < 16) (hi : i < 16) (eh : q = true → x = nI h) (hn : ¬ (i = h ∧ q = true)) : cond (q && decide (x = nI i)) y (-1000000) = -1000000 := by
  cases q
  · rfl
  · have hx : ¬ x = nI i := by
      intro t
      rw [eh rfl, nI_eq (by omega) (by omega)] at t
      exact hn ⟨t.symm, rfl⟩
    rw [decide_eq_false hx]
    rfl
theorem ru_bestOf {post : Int32 → Prop} {o h : Nat} {q : Bool} (ho : o ≤ 1) (hq : q = true → o = 1) (hh : h < 16) (eh : q = true → a1 40 &&& 15 = nI h) (hne : q = true → ¬ a3 40 = -1000000) (H : post (cond q (nI h) (-1))) : wpX_bestOf post (0, nI o, e, cp, ru_L q, a1, a2, a3, a4, a5, a6, a7, a8) 0 0 := by
  refine pk_loop (σ := Int32 × Int32) (fun n i s => wX_bestOf_8 post 0 0 0 (nI o) e cp (ru_L q) a1 a2 a3 a4 a5 a6 a7 a8 n s.1 s.2 (nI i)) (fun i s => s.1 = ru_acc h q (nI h) (-1) i) 16 0 (-1, 0) (by omega) (ru_acc_lo (by omega)).symm
    (fun n s h9 => pk_le 16 16 (fun _ => ?_) (fun z => absurd z (by omega)))
    (fun n i s hi h9 hw => pk_le 16 i (fun z => absurd z (by omega)) (fun _ => br_t (ru_z i hi) (ru_sumOf ho hq ?_)))
  · have h' : s.1 = cond q (nI h) (-1) := Eq.trans h9 (ru_acc_hi hh)
    rw [h']
    exact H
  · by_cases hc : i = h ∧ q = true
    · obtain ⟨rfl, rfl⟩ := hc
      have ev : cond (true && decide (a1 40 &&& 15 = nI i)) (a3 40) (-1000000) = a3 40 := by
        rw [decide_eq_true (eh rfl)]
        rfl
      rw [ev]
      have hs : s.1 = -1 := ru_stz h9 rfl
      exact br_f (hne rfl) (br_t (by rw [hs]; decide) (nm_r (nI_1 i) (hw (nI i, a3 40) (ru_acc_at rfl rfl).symm)))
    · rw [ru_v hh hi eh hc]
      exact br_t rfl (nm_r (nI_1 i) (hw s (ru_st3 h9 hc)))
theorem ru_top {post : Int32 → St2 → Prop} {o h : Nat} {q s : Bool} {f : Int32} (hs : ru_is f s) (ho : o ≤ 1) (hq : q = true → o = 1) (hp : o = 1 → ∀ ψ : Int32 → Prop, ψ (ru_b q) → wpX_passes ψ () f (a1 40))
    (hh : h < 16) (eh : q = true → a1 40 &&& 15 = nI h) (hne : q = true → ¬ a3 40 = -1000000)
    (H : ∀ cp' op', post (cond s (cond q (nI h) (-1)) (-1)) (0, nI o, e, cp', op', a1, a2, a3, a4, a5, a6, a7, a8)) : wpX_top post (0, nI o, e, cp, op, a1, a2, a3, a4, a5, a6, a7, a8) f 0 0 := by
  unfold wpX_top
  refine br_f (by decide) (br_f (by decide) (br_f (by decide) (ru_sel hs ho hq hp (fun cp' op' hop => ?_))))
  cases s
  · exact br_t rfl (H cp' op')
  · have h9 := hop rfl
    subst h9
    refine br_f (by decide) (Exists.intro (Nat.succ (Nat.succ 0)) (br_f (by decide) (br_f (by decide) (ru_bestOf ho hq hh eh hne ?_))))
    cases q
    · exact br_f (show ¬ (0 : Int32) ≤ -1 by decide) (H cp' _)
    · exact br_t (nI_pos' (by omega)) (nm_e (nm_r (show (0 : Int32) + 1 = nI 1 by decide) (br_t (by decide) (H cp' _))))
end
end
section
section
variable {c o9 e : Int32} {cp op : Int64} {a1 a2 a3 a4 a5 : Nat → Int32} {a6 a7 a8 : Nat → Int64}
theorem ru_c40 : (40 : Int32).toNatClampNeg = 40 := by decide
theorem ru_keep0 {post : Int32 → St2 → Prop} {p : Int32} (H : post 0 (c, o9, e, cp, op, a1, a2, a3, a4, a5, a6, a7, a8)) : wpX_keepOthers post (c, o9, e, cp, op, a1, a2, a3, a4, a5, a6, a7, a8) 0 0 p := by
  unfold wpX_keepOthers
  exact Exists.intro (Nat.succ 0) (pk_le 0 0 (fun _ => H) (fun z => absurd z (by omega)) (by decide))
theorem ru_keep40 {post : Int32 → St2 → Prop} {p : Int32} (H : post 0 (c, o9, e, cp, op, a1, a2, a3, a4, a5, a6, a7, a8)) : wpX_keepOthers post (c, o9, e, cp, op, a1, a2, a3, a4, a5, a6, a7, a8) 40 (nI 0) p := by
  unfold wpX_keepOthers
  exact Exists.intro (Nat.succ 0) (pk_le 40 40 (fun _ => H) (fun z => absurd z (by omega)) (by decide))
theorem ru_keep1 {post : Int32 → St2 → Prop} {p : Int32} (H1 : a1 40 &&& 15 = p → post 0 (c, o9, e - a2 40, cp, op, a1, a2, a3, a4, a5, a6, a7, a8))
    (H2 : ¬ a1 40 &&& 15 = p → ∀ b1 b2 b3 b4 b5, post 1 (c, o9, e, cp, op, b1, b2, b3, b4, b5, a6, a7, a8)) : wpX_keepOthers post (c, o9, e, cp, op, a1, a2, a3, a4, a5, a6, a7, a8) 40 (nI 1) p := by
  unfold wpX_keepOthers
  refine Exists.intro (Nat.succ (Nat.succ 0)) (pk_le 41 40 (fun z => absurd z (by omega)) (fun _ => ⟨pk_in 40 80 (by omega), ?_⟩) (by decide))
  rw [ru_c40]
  refine br_c (fun h => ⟨pk_in 40 80 (by omega), nm_e (nm_r (show (40 : Int32) + 1 = nI 41 by decide) (pk_le 41 41 (fun _ => H1 h) (fun z => absurd z (by omega)) (by decide)))⟩) (fun h => nm_r (show (40 : Int32) + 0 = 40 by decide) ⟨pk_in 40 80 (by omega), pk_in 40 80 (by omega), nm_e ⟨pk_in 40 80 (by omega), pk_in 40 80 (by omega), nm_e ⟨pk_in 40 80 (by omega), pk_in 40 80 (by omega), nm_e ⟨pk_in 40 80 (by omega), pk_in 40 80 (by omega), nm_e ⟨pk_in 40 80 (by omega), pk_in 40 80 (by omega), nm_e (nm_r (show (0 : Int32) + 1 = 1 by decide) (nm_r (show (40 : Int32) + 1 = nI 41 by decide) (pk_le 41 41 (fun _ => H2 h _ _ _ _ _) (fun z => absurd z (by omega)) (by decide))))⟩⟩⟩⟩⟩)
theorem ru_i50 {post : St2 → Prop} (H : ∀ b6 b7 b8, post (0, o9, e, cp, op, a1, a2, a3, a4, a5, b6, b7, b8)) : ∃ n, wX_index_50 post 0 o9 e cp op n 0 a1 a2 a3 a4 a5 a6 a7 a8 :=
  ⟨Nat.succ 0, pk_le 0 0 (fun _ => H _ _ _) (fun z => absurd z (by omega))⟩
theorem ru_i23 {post : St2 → Prop} (H : ∀ b6 b7 b8, post (0, o9, e, cp, op, a1, a2, a3, a4, a5, b6, b7, b8)) : ∃ n, wX_index_23 post 0 o9 e cp op n 0 a1 a2 a3 a4 a5 a6 a7 a8 :=
  pk_loop (σ := (Nat → Int64) × (Nat → Int64)) (fun n i s => wX_index_23 post 0 o9 e cp op n (nI i) a1 a2 a3 a4 a5 a6 s.1 s.2) (fun _ _ => True) 4 0 (a7, a8) (by omega) trivial
    (fun n s _ => pk_le 4 4 (fun _ => ru_i50 H) (fun z => absurd z (by omega)))
    (fun n i s hi _ hw => pk_le 4 i (fun z => absurd z (by omega)) (fun _ => ⟨pk_in i 4 hi, nm_e ⟨pk_in i 4 hi, nm_e (nm_r (nI_1 i) (hw (_, _) trivial))⟩⟩))
theorem ru_i2 {post : St2 → Prop} (H : ∀ b6 b7 b8, post (0, o9, e, cp, op, a1, a2, a3, a4, a5, b6, b7, b8)) : ∃ n, wX_index_2 post 0 o9 e cp op n 0 a1 a2 a3 a4 a5 a6 a7 a8 :=
  pk_loop (σ := Nat → Int64) (fun n i s => wX_index_2 post 0 o9 e cp op n (nI i) a1 a2 a3 a4 a5 s a7 a8) (fun _ _ => True) 16 0 a6 (by omega) trivial
    (fun n s _ => pk_le 16 16 (fun _ => ru_i23 H) (fun z => absurd z (by omega)))
    (fun n i s hi _ hw => pk_le 16 i (fun z => absurd z (by omega)) (fun _ => ⟨pk_in i 16 hi, nm_e (nm_r (nI_1 i) (hw _ trivial))⟩))
theorem ru_index {post : St2 → Prop} (H : ∀ b6 b7 b8, post (0, o9, e, cp, op, a1, a2, a3, a4, a5, b6, b7, b8)) : wpX_index post (0, o9, e, cp, op, a1, a2, a3, a4, a5, a6, a7, a8) :=
  ru_i2 H
/-- what forget answers -/
def ru_gone (g : Bool) (hr p : Int32) : Int32 := if p < 0 then -1 else if p < 16 then ru_b (g && decide (hr = p)) else -1
theorem ru_gone_1 {g : Bool} {hr p : Int32} (h : p < 0) : ru_gone g hr p = -1 := if_pos h
theorem ru_gone_2 {g : Bool} {hr p : Int32} (h : ¬ p < 0) (h1 : ¬ p < 16) : ru_gone g hr p = -1 := by
  unfold ru_gone
  rw [if_neg h, if_neg h1]
theorem ru_gone_3 {g : Bool} {hr p : Int32} (h : ¬ p < 0) (h1 : p < 16) : ru_gone g hr p = ru_b (g && decide (hr = p)) := by
  unfold ru_gone
  rw [if_neg h, if_pos h1]
theorem ru_forget {post : Int32 → St2 → Prop} {o : Nat} {p : Int32} (ho : o ≤ 1) (hc : o = 1 → a2 40 = 1) (H : ∀ u, post (ru_gone (decide (o = 1)) (a1 40 &&& 15) p) u) : wpX_forget post (0, nI o, nI o, cp, op, a1, a2, a3, a4, a5, a6, a7, a8) p := by
  unfold wpX_forget
  by_cases h0 : p < 0
  · rw [ru_gone_1 h0] at H
    exact br_t h0 (H _)
  · refine br_f h0 ?_
    by_cases h1 : p < 16
    · rw [ru_gone_3 h0 h1] at H
      refine br_t h1 (ru_keep0 ?_)
      have ho' : o = 0 ∨ o = 1 := by omega
      rcases ho' with rfl | rfl
      · exact ru_keep40 (ru_index (fun b6 b7 b8 => H _))
      · refine ru_keep1 (fun h => ru_index (fun b6 b7 b8 => ?_)) (fun h b1 b2 b3 b4 b5 => ru_index (fun b6 b7 b8 => ?_))
        · rw [hc rfl]
          rw [decide_eq_true h] at H
          exact H _
        · rw [decide_eq_false h] at H
          exact H _
    · rw [ru_gone_2 h0 h1] at H
      exact br_f h1 (H _)
end
end
section
section
variable {c o9 e : Int32} {cp op : Int64} {a1 a2 a3 a4 a5 : Nat → Int32} {a6 a7 a8 : Nat → Int64}
def ru_good (p0 p1 p2 p3 : Int32) : Prop := ¬ p0 < 0 ∧ ¬ 63 < p0 ∧ ¬ p1 < 0 ∧ ¬ 3 < p1 ∧ ¬ p2 < 0 ∧ ¬ 3 < p2 ∧ ¬ p3 < (-100) ∧ ¬ 100 < p3
theorem ru_nlt {x y : Int32} : ¬ x < y ↔ y ≤ x := by
  rw [Int32.lt_iff_toInt_lt, Int32.le_iff_toInt_le]
  omega
theorem ru_t8 {p0 p1 p2 p3 : Int32} {A B : Prop} (hg : ru_good p0 p1 p2 p3 → B) (hb : ¬ ru_good p0 p1 p2 p3 → A) : ((p0 < 0 → A) ∧ (¬ p0 < 0 → ((63 < p0 → A) ∧ (¬ 63 < p0 → ((p1 < 0 → A) ∧ (¬ p1 < 0 → ((3 < p1 → A) ∧ (¬ 3 < p1 → ((p2 < 0 → A) ∧ (¬ p2 < 0 → ((3 < p2 → A) ∧ (¬ 3 < p2 → ((p3 < (-100) → A) ∧ (¬ p3 < (-100) → ((100 < p3 → A) ∧ (¬ 100 < p3 → B)))))))))))))))) :=
  br_c (fun h => hb (fun t => t.1 h)) (fun h0 => br_c (fun h => hb (fun t => t.2.1 h)) (fun h1 => br_c (fun h => hb (fun t => t.2.2.1 h)) (fun h2 => br_c (fun h => hb (fun t => t.2.2.2.1 h)) (fun h3 => br_c (fun h => hb (fun t => t.2.2.2.2.1 h)) (fun h4 => br_c (fun h => hb (fun t => t.2.2.2.2.2.1 h)) (fun h5 => br_c (fun h => hb (fun t => t.2.2.2.2.2.2.1 h)) (fun h6 => br_c (fun h => hb (fun t => t.2.2.2.2.2.2.2 h)) (fun h7 => hg ⟨h0, h1, h2, h3, h4, h5, h6, h7⟩))))))))
theorem ru_t8' {p0 p1 p2 p3 : Int32} {A B : Prop} (hg : ru_good p0 p1 p2 p3 → B) (hb : ¬ ru_good p0 p1 p2 p3 → A) : ((p0 < 0 → A) ∧ (¬ p0 < 0 → ((63 < p0 → A) ∧ (¬ 63 < p0 → ((p1 < 0 → A) ∧ (¬ p1 < 0 → ((3 < p1 → A) ∧ (¬ 3 < p1 → ((p2 < 0 → A) ∧ (¬ p2 < 0 → ((3 < p2 → A) ∧ (¬ 3 < p2 → ((p3 < (-100) → A) ∧ (¬ p3 < (-100) → ((p3 ≤ 100 → B) ∧ (¬ p3 ≤ 100 → A)))))))))))))))) :=
  br_c (fun h => hb (fun t => t.1 h)) (fun h0 => br_c (fun h => hb (fun t => t.2.1 h)) (fun h1 => br_c (fun h => hb (fun t => t.2.2.1 h)) (fun h2 => br_c (fun h => hb (fun t => t.2.2.2.1 h)) (fun h3 => br_c (fun h => hb (fun t => t.2.2.2.2.1 h)) (fun h4 => br_c (fun h => hb (fun t => t.2.2.2.2.2.1 h)) (fun h5 => br_c (fun h => hb (fun t => t.2.2.2.2.2.2.1 h)) (fun h6 => br_c (fun h7 => hg ⟨h0, h1, h2, h3, h4, h5, h6, ru_nlt.mpr h7⟩) (fun h => hb (fun t => h (ru_nlt.mp t.2.2.2.2.2.2.2))))))))))
/-- an amount fits a byte -/
theorem ru_byte {x : Int32} (h0 : ¬ x < (-100)) (h1 : ¬ 100 < x) : x.toInt8.toInt32 = x := by
  rw [Int32.lt_iff_toInt_lt] at h0 h1
  have e0 : ((-100 : Int32)).toInt = -100 := by decide
  have e1 : ((100 : Int32)).toInt = 100 := by decide
  rw [e0] at h0
  rw [e1] at h1
  apply Int32.toInt_inj.mp
  rw [Int8.toInt_toInt32, Int32.toInt_toInt8]
  apply Int.bmod_eq_of_le <;> omega
theorem ru_237 {post : Int32 → St2 → Prop} {z0 : Int32} (h2 : a2 40 = 1) (H : ∀ b5, post 1 (c, o9, nI 1, cp, op, a1, a2, a3, a4, b5, a6, a7, a8)) : wX_take_237 post (-1) 40 z0 40 c o9 0 cp op a1 a2 a3 a4 a5 a6 a7 a8 := by
  unfold wX_take_237
  refine ⟨pk_in 40 80 (by omega), nm_e (nm_r (show (0 : Int32) + 1 = nI 1 by decide) (br_f (by decide) ⟨pk_in 40 80 (by omega), ?_⟩))⟩
  rw [ru_c40, h2]
  exact H _
theorem ru_205 {post : Int32 → St2 → Prop} {x z0 : Int32} (h2 : a2 40 = 1) (hz : z0.toInt8.toInt32 = x) (H : ∀ b4 b5, b4 40 = x → post 1 (c, o9, nI 1, cp, op, a1, a2, a3, b4, b5, a6, a7, a8)) : wX_take_205 post x (-1) 40 z0 40 c o9 0 cp op a1 a2 a3 a4 a5 a6 a7 a8 := by
  unfold wX_take_205
  have hb : upd a4 (40 : Int32).toNatClampNeg z0.toInt8.toInt32 40 = x := by
    rw [ru_c40, pk_us, hz]
  exact ⟨pk_in 40 80 (by omega), nm_e ⟨pk_in 40 80 (by omega), br_c (fun _ => ⟨pk_in 40 80 (by omega), ru_237 h2 (fun b5 => H _ b5 hb)⟩) (fun _ => ru_237 h2 (fun b5 => H _ b5 hb))⟩⟩
theorem ru_151 {post : Int32 → St2 → Prop} {x : Int32} (h2 : a2 40 = 0) (h3 : a3 40 = 0) (h4 : a4 40 = 100) (l0 : ¬ x < (-100)) (l1 : ¬ 100 < x)
    (H : ∀ b2 b3 b4 b5, b2 40 = 1 → b3 40 = x → b4 40 = x → post 1 (c, o9, nI 1, cp, op, a1, b2, b3, b4, b5, a6, a7, a8)) : wX_take_151 post x (-1) 40 c o9 0 cp op a1 a2 a3 a4 a5 a6 a7 a8 := by
  unfold wX_take_151
  have e2 : upd a2 (40 : Int32).toNatClampNeg ((a2 (40 : Int32).toNatClampNeg + 1).toInt16.toInt32) 40 = 1 := by
    rw [ru_c40, pk_us, h2]
    decide
  have e3 : upd a3 (40 : Int32).toNatClampNeg (a3 (40 : Int32).toNatClampNeg + x) 40 = x := by
    rw [ru_c40, pk_us, h3, Int32.zero_add]
  refine ⟨pk_in 40 80 (by omega), pk_in 40 80 (by omega), nm_e ⟨pk_in 40 80 (by omega), pk_in 40 80 (by omega), nm_e ⟨pk_in 40 80 (by omega), br_c (fun hx => ⟨pk_in 40 80 (by omega), ru_205 e2 ?_ (fun b4 b5 h => H _ _ b4 b5 e2 e3 h)⟩) (fun hx => ru_205 e2 (ru_byte l0 l1) (fun b4 b5 h => H _ _ b4 b5 e2 e3 h))⟩⟩⟩
  rw [ru_c40, h4] at hx
  rw [ru_c40, h4]
  have ex : x = 100 := by
    rw [ru_nlt, Int32.le_iff_toInt_le] at l1
    rw [Int32.le_iff_toInt_le] at hx
    exact Int32.toInt_inj.mp (by omega)
  rw [ex]
  decide
/-- what the state holds behind take: one row at 40, or nothing -/
def ru_F (g : Bool) (o : Nat) (p0 p1 p2 p3 : Int32) (b1 b2 b3 b4 : Nat → Int32) : Prop := (g = true ∧ o = 1 ∧ ru_good p0 p1 p2 p3 ∧ (∃ h : Nat, h < 16 ∧ p0 / 4 = nI h) ∧ b1 40 &&& 15 = p0 / 4 ∧ (b1 40 >>> ((4 : Int32) &&& 31)) &&& 3 = p1 ∧ b1 40 >>> ((6 : Int32) &&& 31) = p2 ∧ p2 &&& 3 = p2 ∧ b2 40 = 1 ∧ b3 40 = p3 ∧ b4 40 = p3) ∨ (g = false ∧ o = 0 ∧ ¬ ru_good p0 p1 p2 p3)
theorem ru_k16 : ∀ k, k < 256 → (nI k).toInt16.toInt32 = nI k := by decide +kernel
theorem ru_key {t pl kd : Nat} (ht : t ≤ 63) (hp : pl ≤ 3) (hk : kd ≤ 3) : nI t / 4 = nI (t / 4) ∧ ((nI t / 4) + (16 * nI pl)) + (64 * nI kd) = nI (t / 4 + 16 * pl + 64 * kd) := by
  have k1 : nI t / 4 = nI (t / 4) := pk_div (a := t) (d := 4) (by omega) (by omega) (by omega)
  have k2 : 16 * nI pl = nI (16 * pl) := pk_mul 16 pl
  have k3 : 64 * nI kd = nI (64 * kd) := pk_mul 64 kd
  exact ⟨k1, by rw [k1, k2, k3, nI_add, nI_add]⟩
theorem ru_kp {t pl kd K : Nat} (ht : t ≤ 63) (hp : pl ≤ 3) (hk : kd ≤ 3) (e : K = t / 4 + 16 * pl + 64 * kd) : nI K &&& 15 = nI (t / 4) ∧ (nI K >>> ((4 : Int32) &&& 31)) &&& 3 = nI pl ∧ nI K >>> ((6 : Int32) &&& 31) = nI kd ∧ nI kd &&& 3 = nI kd := by
  refine ⟨?_, ?_, ?_, ?_⟩
  · rw [pk_andN (n := K) (by omega) (m := 15) 4 (by decide)]
    congr 1
    omega
  · rw [pk_shrN (n := K) (by omega) ((4 : Int32) &&& 31) 4 (by decide), pk_andN (n := K / 2 ^ 4) (by omega) (m := 3) 2 (by decide)]
    congr 1
    omega
  · rw [pk_shrN (n := K) (by omega) ((6 : Int32) &&& 31) 6 (by decide)]
    congr 1
    omega
  · rw [pk_andN (n := kd) (by omega) (m := 3) 2 (by decide)]
    congr 1
    omega
theorem ru_take {post : Int32 → St2 → Prop} {p0 p1 p2 p3 : Int32} (H : ∀ g o b1 b2 b3 b4 b5, ru_F g o p0 p1 p2 p3 b1 b2 b3 b4 → post (cond g 1 (-1)) (0, nI o, nI o, 0, 0, b1, b2, b3, b4, b5, fun _ => 0, fun _ => 0, fun _ => 0)) :
    wpX_take post (0, 0, 0, 0, 0, fun _ => 0, fun _ => 0, fun _ => 0, fun _ => 0, fun _ => 0, fun _ => 0, fun _ => 0, fun _ => 0) p0 p1 p2 p3 := by
  unfold wpX_take
  refine ru_t8' (fun hg => ?_) (fun hb => H false 0 _ _ _ _ _ (Or.inr ⟨rfl, rfl, hb⟩))
  have hg' := hg
  obtain ⟨g0, g1, g2, g3, g4, g5, g6, g7⟩ := hg
  obtain ⟨t, ht, rfl⟩ := nI_of2 (M := 63) (n := 63) (by decide) g0 (ru_nlt.mp g1)
  obtain ⟨pl, hp, rfl⟩ := nI_of2 (M := 3) (n := 3) (by decide) g2 (ru_nlt.mp g3)
  obtain ⟨kd, hk, rfl⟩ := nI_of2 (M := 3) (n := 3) (by decide) g4 (ru_nlt.mp g5)
  obtain ⟨k1, k2⟩ := ru_key ht hp hk
  obtain ⟨K, eK⟩ : ∃ K, K = t / 4 + 16 * pl + 64 * kd := ⟨_, rfl⟩
  obtain ⟨f1, f2, f3, f4⟩ := ru_kp ht hp hk eK
  rw [← eK] at k2
  refine ⟨by decide, nm_r k2 ?_⟩
  refine Exists.intro (Nat.succ 0) (pk_le 0 0 (fun _ => ?_) (fun z => absurd z (by omega)))
  refine Exists.intro (Nat.succ 0) (pk_le 40 40 (fun _ => ?_) (fun z => absurd z (by omega)) (by decide))
  refine br_f (by decide) (br_f (by decide) (br_f (by decide) (br_f (by decide) ?_)))
  refine Exists.intro (Nat.succ 0) (pk_le 40 40 (fun _ => br_t (by decide) (br_f (by decide) (nm_r (show (40 : Int32) + 0 = 40 by decide) ?_))) (fun z => absurd z (by omega)) (by decide))
  unfold wpX_startRow
  refine ⟨pk_in 40 80 (by omega), nm_e ⟨pk_in 40 80 (by omega), nm_e ⟨pk_in 40 80 (by omega), nm_e ⟨pk_in 40 80 (by omega), nm_e ⟨pk_in 40 80 (by omega), nm_e (nm_r (show (0 : Int32) + 1 = nI 1 by decide) (ru_151 ?_ ?_ ?_ g6 g7 (fun b2 b3 b4 b5 e2 e3 e4 => H true 1 _ b2 b3 b4 b5 (Or.inl ⟨rfl, rfl, hg', ⟨t / 4, by omega, k1⟩, ?_⟩))))⟩⟩⟩⟩⟩
  · rw [ru_c40, pk_us]
  · rw [ru_c40, pk_us]
  · rw [ru_c40, pk_us]
  · rw [ru_c40, pk_us, ru_k16 K (by omega), k1]
    exact ⟨f1, f2, f3, f4, e2, e3, e4⟩
end
end
section
section
variable {post : Int32 → St0 → Prop} {mc ms kc ks : Nat} {x0 x1 x2 x3 x4 x6 x7 x8 x9 x10 x11 x14 z0 z1 : Int32} {g s : Bool}
theorem ru_15 {x : Int32} : x ≤ 15 ↔ x < 16 := by
  rw [Int32.lt_iff_toInt_lt, Int32.le_iff_toInt_le, show (15 : Int32).toInt = 15 by decide, show (16 : Int32).toInt = 16 by decide]
  omega
theorem ru_455 (hp : post 1 ()) (h : z1 = z0) : wL_lawOf_455 post mc ms z0 z1 kc ks := br_t h hp
theorem ru_420 (hp : post 1 ()) (h : z1 = z0) (h11 : x11 = ru_gone g x14 x1) : wL_lawOf_420 post mc ms x1 x11 (ru_b g) x14 z0 z1 kc ks := by
  refine br_t h (br_c (fun h0 => ?_) (fun h0 => br_c (fun h1 => ?_) (fun h1 => ?_)))
  · rw [ru_gone_1 h0] at h11
    exact ru_455 hp h11
  · rw [ru_gone_3 h0 (ru_15.mp h1)] at h11
    cases g
    · exact br_t rfl (ru_455 hp h11)
    · refine br_f (by decide) (br_c (fun h2 => ?_) (fun h2 => ?_))
      · rw [decide_eq_true h2] at h11
        exact ru_455 hp h11
      · rw [decide_eq_false h2] at h11
        exact ru_455 hp h11
  · rw [ru_gone_2 h0 (fun t => h1 (ru_15.mpr t))] at h11
    exact ru_455 hp h11
theorem ru_404 (z : Bool) (hp : post 1 ()) (h : z1 = z0) (h10 : x10 = cond z x14 (-1)) (h11 : x11 = ru_gone g x14 x1) : wL_lawOf_404 post mc ms x1 x10 x11 (ru_b g) x14 (ru_b z) z0 z1 kc ks := by
  cases z
  · exact br_t h (br_t rfl (ru_420 hp h10 h11))
  · exact br_t h (br_f (by decide) (ru_420 hp h10 h11))
theorem ru_388 (z : Bool) (hp : post 1 ()) (h : z1 = z0) (h9 : x9 = cond z x3 (-1000000)) (h10 : x10 = cond z x14 (-1)) (h11 : x11 = ru_gone g x14 x1) : wL_lawOf_388 post mc ms x1 x3 x9 x10 x11 (ru_b g) x14 (ru_b z) z0 z1 kc ks := by
  cases z
  · exact br_t h (br_t rfl (ru_404 false hp h9 h10 h11))
  · exact br_t h (br_f (by decide) (ru_404 true hp h9 h10 h11))
theorem ru_363 (z : Bool) (hp : post 1 ()) (h : z1 = z0) (h8 : x8 = cond s (cond z x3 0) (-1000000)) (h9 : x9 = cond z x3 (-1000000)) (h10 : x10 = cond z x14 (-1)) (h11 : x11 = ru_gone g x14 x1) : wL_lawOf_363 post mc ms x1 x3 x8 x9 x10 x11 (ru_b g) (ru_b s) x14 (ru_b z) z0 z1 kc ks := by
  cases s
  · exact br_t h (br_t rfl (ru_388 z hp h8 h9 h10 h11))
  · cases z
    · exact br_t h (br_f (by decide) (br_t rfl (ru_388 false hp h8 h9 h10 h11)))
    · exact br_t h (br_f (by decide) (br_f (by decide) (ru_388 true hp h8 h9 h10 h11)))
theorem ru_339 (z : Bool) (hp : post 1 ()) (h : z1 = z0) (h7 : x7 = cond s (cond z 1 0) (-1)) (h8 : x8 = cond s (cond z x3 0) (-1000000)) (h9 : x9 = cond z x3 (-1000000)) (h10 : x10 = cond z x14 (-1)) (h11 : x11 = ru_gone g x14 x1) : wL_lawOf_339 post mc ms x1 x3 x7 x8 x9 x10 x11 (ru_b g) (ru_b s) x14 (ru_b z) z0 z1 kc ks := by
  cases s
  · exact br_t h (br_t rfl (ru_363 z hp h7 h8 h9 h10 h11))
  · cases z
    · exact br_t h (br_f (by decide) (br_t rfl (ru_363 false hp h7 h8 h9 h10 h11)))
    · exact br_t h (br_f (by decide) (br_f (by decide) (ru_363 true hp h7 h8 h9 h10 h11)))
theorem ru_325 (z : Bool) (hp : post 1 ()) (h6 : x6 = cond g 1 (-1)) (h7 : x7 = cond s (cond z 1 0) (-1)) (h8 : x8 = cond s (cond z x3 0) (-1000000)) (h9 : x9 = cond z x3 (-1000000)) (h10 : x10 = cond z x14 (-1)) (h11 : x11 = ru_gone g x14 x1) : wL_lawOf_325 post mc ms x1 x3 x6 x7 x8 x9 x10 x11 (ru_b g) (ru_b s) x14 (ru_b z) kc ks := by
  cases g
  · exact br_t rfl (ru_339 z hp h6 h7 h8 h9 h10 h11)
  · exact br_f (by decide) (ru_339 z hp h6 h7 h8 h9 h10 h11)
theorem ru_280 {w : Bool} (H : ∀ z, z = (g && (s && (w && ru_hk x4 x14))) → wL_lawOf_325 post mc ms x1 x3 x6 x7 x8 x9 x10 x11 (ru_b g) (ru_b s) x14 (ru_b z) kc ks) : wL_lawOf_280 post mc ms x1 x3 x4 x6 x7 x8 x9 x10 x11 (ru_b g) (ru_b s) x14 (ru_b w) kc ks := by
  cases g
  · exact br_t rfl (H false rfl)
  · refine br_f (by decide) ?_
    cases s
    · exact br_t rfl (H false rfl)
    · refine br_f (by decide) ?_
      cases w
      · exact br_t rfl (H false rfl)
      · refine br_f (by decide) (br_c (fun h => ?_) (fun h => br_c (fun h' => ?_) (fun h' => ?_)))
        · exact H false (by rw [ru_hk_1 h]; rfl)
        · exact H false (by rw [ru_hk_2 h']; rfl)
        · exact H true (by rw [ru_hk_3 h h']; rfl)
theorem ru_183 {m : Nat} {a b : Bool} {x12 x13 : Int32} (hm : m < 4) (eM : (x4 >>> ((8 : Int32) &&& 31)) &&& 3 = nI m) (K : wL_lawOf_280 post mc ms x1 x3 x4 x6 x7 x8 x9 x10 x11 x12 x13 x14 (ru_b (ru_set m a b)) kc ks) : wL_lawOf_183 post mc ms x1 x3 x4 x6 x7 x8 x9 x10 x11 x12 x13 x14 (ru_b a) (ru_b b) kc ks := by
  refine nm_r eM ?_
  have hm' : m = 0 ∨ m = 1 ∨ m = 2 ∨ m = 3 := by omega
  rcases hm' with rfl | rfl | rfl | rfl
  · refine br_t (by decide) ?_
    cases a
    · exact br_t rfl K
    · cases b
      · exact br_f (by decide) (br_t rfl K)
      · exact br_f (by decide) (br_f (by decide) K)
  · refine br_f (by decide) (br_t (by decide) ?_)
    cases a
    · cases b
      · exact br_t rfl (br_t rfl K)
      · exact br_t rfl (br_f (by decide) K)
    · exact br_f (by decide) K
  · refine br_f (by decide) (br_f (by decide) (br_t (by decide) ?_))
    cases a
    · exact br_t rfl K
    · cases b
      · exact br_f (by decide) (br_t rfl K)
      · exact br_f (by decide) (br_f (by decide) K)
  · refine br_f (by decide) (br_f (by decide) (br_f (by decide) ?_))
    cases a
    · cases b
      · exact br_t rfl (br_t rfl K)
      · exact br_t rfl (br_f (by decide) K)
    · exact br_f (by decide) K
theorem ru_157 {b : Bool} {x13 x15 : Int32} (eb : ((x4 >>> ((4 + (x2 &&& 3)) &&& 31)) &&& 1) = ru_b b) (K : wL_lawOf_183 post mc ms x1 x3 x4 x6 x7 x8 x9 x10 x11 (ru_b g) x13 x14 x15 (ru_b (g && b)) kc ks) : wL_lawOf_157 post mc ms x1 x2 x3 x4 x6 x7 x8 x9 x10 x11 (ru_b g) x13 x14 x15 kc ks := by
  cases g
  · exact br_t rfl K
  · cases b
    · exact br_f (by decide) (br_f (fun t => absurd (eb.symm.trans t) (by decide)) K)
    · exact br_f (by decide) (br_t eb K)
theorem ru_130 {a : Bool} {x13 : Int32} (ea : ((x4 >>> (x1 &&& 31)) &&& 1) = ru_b a) (K : wL_lawOf_157 post mc ms x1 x2 x3 x4 x6 x7 x8 x9 x10 x11 (ru_b g) x13 (x0 / 4) (ru_b (g && a)) kc ks) : wL_lawOf_130 post mc ms x0 x1 x2 x3 x4 x6 x7 x8 x9 x10 x11 (ru_b g) x13 kc ks := by
  unfold wL_lawOf_130
  refine ⟨by decide, nm_e ?_⟩
  cases g
  · exact br_t rfl K
  · cases a
    · exact br_f (by decide) (br_f (fun t => absurd (ea.symm.trans t) (by decide)) K)
    · exact br_f (by decide) (br_t ea K)
theorem ru_111 {x12 : Int32} (hs : ru_is x4 s) (K : wL_lawOf_130 post mc ms x0 x1 x2 x3 x4 x6 x7 x8 x9 x10 x11 x12 (ru_b s) kc ks) : wL_lawOf_111 post mc ms x0 x1 x2 x3 x4 x6 x7 x8 x9 x10 x11 x12 kc ks := by
  rcases hs with ⟨rfl, h0, h1⟩ | ⟨rfl, h⟩
  · exact br_f h0 (br_f h1 K)
  · by_cases h0 : x4 < 0
    · exact br_t h0 K
    · exact br_f h0 (br_t (h.resolve_left h0) K)
end
end
section
theorem ru_init {post : St2 → Prop} (H : post (0, 0, 0, 0, 0, fun _ => 0, fun _ => 0, fun _ => 0, fun _ => 0, fun _ => 0, fun _ => 0, fun _ => 0, fun _ => 0)) : wpX_init post 8 424 (0, 0, 0, 0, 0) := by
  unfold wpX_init
  exact ⟨by omega, by omega, by omega, by omega, by omega, by omega, by omega, by omega, by omega, by omega, by omega, by omega, by omega, by omega, by omega, by omega, H⟩
theorem ru_bit (x : Int32) : ∃ a : Bool, x &&& 1 = ru_b a := by
  obtain ⟨j, hj, e⟩ := pk_andE x (m := 1) 1 (by decide)
  have hj' : j = 0 ∨ j = 1 := by omega
  rcases hj' with rfl | rfl
  · exact ⟨false, e⟩
  · exact ⟨true, e⟩
theorem ru_isE (f : Int32) : ∃ s, ru_is f s := by
  by_cases h0 : f < 0
  · exact ⟨false, Or.inr ⟨rfl, Or.inl h0⟩⟩
  · by_cases h1 : 262144 ≤ f
    · exact ⟨false, Or.inr ⟨rfl, Or.inr h1⟩⟩
    · exact ⟨true, Or.inl ⟨rfl, h0, h1⟩⟩
theorem ru_c1 {s q : Bool} {x y u v : Int32} (h : q = true → x = y) : cond s (cond q x u) v = cond s (cond (s && q) y u) v := by
  cases s
  · rfl
  · cases q
    · rfl
    · exact h rfl
theorem ru_c2 {s q : Bool} {x y v : Int32} (h : q = true → x = y) : cond s (cond q x v) v = cond (s && q) y v := by
  cases s
  · rfl
  · cases q
    · rfl
    · exact h rfl
/-- what hangs on the booleans: q says whether the row passes -/
theorem ru_facts {g : Bool} {o : Nat} {p0 p1 p2 p3 p4 : Int32} {b1 b2 b3 b4 : Nat → Int32} {m : Nat} {a b q : Bool} (hF : ru_F g o p0 p1 p2 p3 b1 b2 b3 b4) (hm : m < 4) (eM : (p4 >>> ((8 : Int32) &&& 31)) &&& 3 = nI m) (ea : (p4 >>> (p1 &&& 31)) &&& 1 = ru_b a) (eb : (p4 >>> ((4 + (p2 &&& 3)) &&& 31)) &&& 1 = ru_b b) (eq : q = (g && (ru_set m a b && ru_hk p4 (p0 / 4)))) :
    o ≤ 1 ∧ (q = true → o = 1) ∧ (o = 1 → ∀ ψ : Int32 → Prop, ψ (ru_b q) → wpX_passes ψ () p4 (b1 40)) ∧ (∃ h : Nat, h < 16 ∧ (q = true → b1 40 &&& 15 = nI h) ∧ (q = true → nI h = p0 / 4)) ∧ (q = true → ¬ b3 40 = -1000000) ∧ (o = 1 → b2 40 = 1) ∧ (q = true → b2 40 = 1 ∧ b3 40 = p3 ∧ b4 40 = p3) ∧ ru_gone (decide (o = 1)) (b1 40 &&& 15) p1 = ru_gone g (p0 / 4) p1 := by
  rcases hF with ⟨rfl, rfl, hg, ⟨h, hh, eh⟩, f1, f2, f3, f4, f5, f6, f7⟩ | ⟨rfl, rfl, hg⟩
  · refine ⟨Nat.le_refl 1, fun _ => rfl, fun _ ψ hψ => ?_, ⟨h, hh, fun _ => f1.trans eh, fun _ => eh.symm⟩, fun _ t => ?_, fun _ => f5, fun _ => ⟨f5, f6, f7⟩, by rw [f1]; rfl⟩
    · refine ru_passes hm eM (a := a) (b := b) (by rw [f2]; exact ea) (by rw [f3]; rw [f4] at eb; exact eb) ?_
      rw [f1]
      rw [eq] at hψ
      exact hψ
    · rw [f6] at t
      have h6 := hg.2.2.2.2.2.2.1
      rw [t] at h6
      exact absurd (by decide) h6
  · have q0 : q = false := eq
    subst q0
    have no : ∀ {P : Prop}, false = true → P := fun t => absurd t (by decide)
    refine ⟨by omega, no, fun t => absurd t (by decide), ⟨0, by omega, no, no⟩, no, fun t => absurd t (by decide), no, ?_⟩
    rfl
theorem ru_lawOf (p0 p1 p2 p3 p4 : Int32) {post : Int32 → St0 → Prop} (hp1 : post 1 ()) : wpL_lawOf post 9 437 () p0 p1 p2 p3 p4 := by
  unfold wpL_lawOf
  refine ⟨by omega, by omega, 8, 424, by omega, by omega, ru_init ?_⟩
  refine ru_take (fun g o b1 b2 b3 b4 b5 hF => ?_)
  obtain ⟨m, hm, eM⟩ := pk_andE (p4 >>> ((8 : Int32) &&& 31)) (m := 3) 2 (by decide)
  obtain ⟨a, ea⟩ := ru_bit (p4 >>> (p1 &&& 31))
  obtain ⟨b, eb⟩ := ru_bit (p4 >>> ((4 + (p2 &&& 3)) &&& 31))
  obtain ⟨s, hs⟩ := ru_isE p4
  obtain ⟨q, eq⟩ : ∃ q, q = (g && (ru_set m a b && ru_hk p4 (p0 / 4))) := ⟨_, rfl⟩
  obtain ⟨ho, hq, hp, ⟨h, hh, eh, eh'⟩, hne, hc, hv, hgo⟩ := ru_facts hF hm eM ea eb eq
  refine ru_count hs ho hq hp (fun cp1 op1 => ?_)
  refine ru_sum hs ho hq hp (fun cp2 op2 => ?_)
  refine ru_least hs ho hq hp (fun cp3 op3 => ?_)
  refine ru_top hs ho hq hp hh eh hne (fun cp4 op4 => ?_)
  refine ru_forget ho hc (fun u => ?_)
  obtain ⟨u1, u2, u3, u4, u5, u6, u7, u8, u9, u10, u11, u12, u13⟩ := u
  have E : wL_lawOf_111 post 9 437 p0 p1 p2 p3 p4 (cond g 1 (-1)) (cond s (cond q (b2 40) 0) (-1)) (cond s (cond q (b3 40) 0) (-1000000)) (cond s (cond q (b4 40) (-1000000)) (-1000000)) (cond s (cond q (nI h) (-1)) (-1)) (ru_gone (decide (o = 1)) (b1 40 &&& 15) p1) (ru_b g) (1 + 8) (13 + 424) := by
    refine ru_111 hs (ru_130 ea (ru_157 eb (ru_183 hm eM (ru_280 (fun z hz => ?_)))))
    have ez : z = (s && q) := by
      rw [hz, eq]
      cases g
      · cases s <;> rfl
      · cases s <;> rfl
    rw [ez]
    exact ru_325 _ hp1 rfl (ru_c1 (fun t => (hv t).1)) (ru_c1 (fun t => (hv t).2.1)) (ru_c2 (fun t => (hv t).2.2)) (ru_c2 eh') hgo
  refine ru_t8 (fun hg => ?_) (fun hb => ?_)
  · rcases hF with ⟨rfl, _⟩ | ⟨_, _, hg'⟩
    · exact E
    · exact absurd hg hg'
  · rcases hF with ⟨_, _, hg', _⟩ | ⟨rfl, _⟩
    · exact absurd hg' hb
    · exact E
theorem ru_cell {post : Int32 → Prop} {L : Nat} {xs : Nat → Int32} {k : Nat} (hk : k < 5) (hL : L ≤ 5) (H : ∀ x, post x) : wpL_cellAt post L xs () (nI k) :=
  pk_le L k (fun _ => H _) (fun z => ⟨pk_in k L z, H _⟩)
theorem i_vc (xs : Nat → Int32) (L : Nat) (hL : L ≤ 5) : wpL_law (fun r => r = 1) L xs := by
  unfold wpL_law
  exact ru_cell (k := 0) (by omega) hL (fun r1 => ru_cell (k := 1) (by omega) hL (fun r2 => ru_cell (k := 2) (by omega) hL (fun r3 => ru_cell (k := 3) (by omega) hL (fun r4 => ru_cell (k := 4) (by omega) hL (fun r5 => ⟨9, 437, by omega, by omega, ru_lawOf r1 r2 r3 r4 r5 rfl⟩)))))
end
