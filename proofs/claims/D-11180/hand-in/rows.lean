section
/-! values: a number, or a number and a linear form in n and m; the heap: rows (array, index, value), the newest first; array 0: the scalars -/
abbrev tw_V : Type := Int32 × Option (Int32 × Int32)
abbrev tw_H : Type := List (Nat × Nat × tw_V)
def tw_ev (n m : Int32) (v : tw_V) : Int32 := match v with
  | (c, none) => c
  | (c, some (a, b)) => c + a * n + b * m
def tw_add (v w : tw_V) : tw_V := match v, w with
  | (c, none), (d, none) => (c + d, none)
  | (c, none), (d, some (a, b)) => (c + d, some (a, b))
  | (c, some (a, b)), (d, none) => (c + d, some (a, b))
  | (c, some (a, b)), (d, some (e, f)) => (c + d, some (a + e, b + f))
def tw_mul (x : Int32) (v : tw_V) : tw_V := match v with
  | (c, none) => (x * c, none)
  | (c, some (a, b)) => (x * c, some (x * a, x * b))
theorem tw_evC (n m c : Int32) : c = tw_ev n m (c, none) := rfl
theorem tw_evA {n m x y : Int32} {v w : tw_V} (hx : x = tw_ev n m v) (hy : y = tw_ev n m w) : x + y = tw_ev n m (tw_add v w) := by
  subst hx
  subst hy
  obtain ⟨c, _ | ⟨a, b⟩⟩ := v <;> obtain ⟨d, _ | ⟨e, f⟩⟩ := w <;> simp only [tw_add, tw_ev] <;> grind
theorem tw_evM {n m x y : Int32} {v : tw_V} (hy : y = tw_ev n m v) : x * y = tw_ev n m (tw_mul x v) := by
  subst hy
  obtain ⟨c, _ | ⟨a, b⟩⟩ := v <;> simp only [tw_mul, tw_ev] <;> grind
/-! a value worked out before it is handed on -/
def tw_fN (k : Nat) (f : Nat → Bool) : Bool := match k with
  | 0 => f 0
  | j + 1 => f (Nat.succ j)
theorem tw_fN_eq (k : Nat) (f : Nat → Bool) : tw_fN k f = f k := by cases k <;> rfl
def tw_f (v : Int32) (k : Int32 → Bool) : Bool := tw_fN v.toBitVec.toNat (fun j => k (Int32.ofNat j))
theorem tw_ofN (v : Int32) : Int32.ofNat v.toBitVec.toNat = v := by
  apply Int32.toBitVec_inj.mp
  simp
theorem tw_f_eq (v : Int32) (k : Int32 → Bool) : tw_f v k = k v := by
  unfold tw_f
  rw [tw_fN_eq, tw_ofN]
theorem tw_f_ok {x e : Int32} {k : Int32 → Bool} (hb : tw_f e k = true) (ex : x = e) : k x = true := by
  rw [tw_f_eq] at hb
  rw [ex]
  exact hb
def tw_fV (v : tw_V) (k : tw_V → Bool) : Bool := tw_f v.1 (fun c => match v.2 with
  | none => k (c, none)
  | some w => tw_f w.1 (fun a => tw_f w.2 (fun b => k (c, some (a, b)))))
theorem tw_fV_eq (v : tw_V) (k : tw_V → Bool) : tw_fV v k = k v := by
  obtain ⟨c, _ | ⟨a, b⟩⟩ := v <;> simp only [tw_fV, tw_f_eq]
theorem tw_bt {c : Prop} [Decidable c] {a b : Bool} (hc : c) (hb : (if c then a else b) = true) : a = true := by
  rw [if_pos hc] at hb
  exact hb
theorem tw_bf {c : Prop} [Decidable c] {a b : Bool} (hc : ¬ c) (hb : (if c then a else b) = true) : b = true := by
  rw [if_neg hc] at hb
  exact hb
def tw_in (x : Int32) (N : Nat) : Bool := !(decide (x < 0)) && Nat.blt x.toNatClampNeg N
theorem tw_in_ok {x : Int32} {N : Nat} {b : Bool} (hb : (tw_in x N && b) = true) : vp_in x N ∧ b = true := by
  rw [Bool.and_eq_true] at hb
  refine ⟨?_, hb.2⟩
  have h := hb.1
  unfold tw_in at h
  rw [Bool.and_eq_true, Bool.not_eq_true', decide_eq_false_iff_not] at h
  have h2 : x.toNatClampNeg < N := Nat.blt_eq.mp h.2
  unfold vp_in
  intro z
  rcases z with z | z
  · exact h.1 z
  · omega
/-! the heap -/
def tw_lk (h : tw_H) (i j : Nat) : Option tw_V := match h with
  | [] => none
  | e :: t => bif (Nat.beq e.1 i && Nat.beq e.2.1 j) then some e.2.2 else tw_lk t i j
def tw_rd (h : tw_H) (i j : Nat) (k : Int32 → Bool) : Bool := tw_fN j (fun j => match tw_lk h i j with
  | some (c, none) => k c
  | _ => false)
def tw_rL (h : tw_H) (i j : Nat) (k : tw_V → Bool) : Bool := tw_fN j (fun j => match tw_lk h i j with
  | some v => k v
  | none => false)
def tw_wr (h : tw_H) (i j : Nat) (v : Int32) (k : tw_H → Bool) : Bool := tw_fN j (fun j => tw_f v (fun v => k ((i, j, (v, none)) :: h)))
def tw_wL (h : tw_H) (i j : Nat) (v : tw_V) (k : tw_H → Bool) : Bool := tw_fN j (fun j => tw_fV v (fun v => k ((i, j, v) :: h)))
theorem tw_wr_eq (h : tw_H) (i j : Nat) (v : Int32) (k : tw_H → Bool) : tw_wr h i j v k = k ((i, j, (v, none)) :: h) := by
  unfold tw_wr
  rw [tw_fN_eq, tw_f_eq]
theorem tw_wL_eq (h : tw_H) (i j : Nat) (v : tw_V) (k : tw_H → Bool) : tw_wL h i j v k = k ((i, j, v) :: h) := by
  unfold tw_wL
  rw [tw_fN_eq, tw_fV_eq]
def tw_keep (mk : Nat) : tw_H → (tw_H → Bool) → Bool
  | [] => fun k => k []
  | e :: t => fun k => tw_keep mk t (fun t' => bif Nat.testBit mk e.1 then k (e :: t') else k t')
theorem tw_keep_eq (mk : Nat) (h : tw_H) : ∀ k, tw_keep mk h k = k (h.filter (fun e => Nat.testBit mk e.1)) := by
  induction h with
  | nil => intro k; rfl
  | cons e t ih =>
    intro k
    unfold tw_keep
    rw [ih, List.filter_cons]
    cases Nat.testBit mk e.1 <;> rfl
/-! what the heap says of a state: S the four scalars, A the arrays; arrays 14, 18, 19 and scalar 3 aren't followed -/
def tw_tr (i : Nat) : Bool := !(Nat.beq i 0 || Nat.beq i 14 || Nat.beq i 18 || Nat.beq i 19)
def tw_M (n m : Int32) (h : tw_H) (S : Nat → Int32) (A : Nat → Nat → Int32) : Prop := (∀ i j v, tw_tr i = true → tw_lk h i j = some v → A i j = tw_ev n m v) ∧ (∀ j v, Nat.beq j 3 = false → tw_lk h 0 j = some v → S j = tw_ev n m v)
def tw_st (A : Nat → Nat → Int32) (i : Nat) (f : Nat → Int32) : Nat → Nat → Int32 := fun k => bif Nat.beq k i then f else A k
theorem tw_rd_ok {n m : Int32} {h : tw_H} {S : Nat → Int32} {A : Nat → Nat → Int32} {i j : Nat} {k : Int32 → Bool} {f : Nat → Int32} {x : Int32} (hM : tw_M n m h S A) (hb : tw_rd h i j k = true) (hf : A i = f) (ht : tw_tr i = true) (ex : x = f j) : k x = true := by
  unfold tw_rd at hb
  rw [tw_fN_eq] at hb
  split at hb
  · rename_i c hc
    have e := hM.1 i j _ ht hc
    rw [ex, ← hf, e]
    exact hb
  · exact absurd hb Bool.false_ne_true
theorem tw_rS_ok {n m : Int32} {h : tw_H} {S : Nat → Int32} {A : Nat → Nat → Int32} {j : Nat} {k : Int32 → Bool} {x : Int32} (hM : tw_M n m h S A) (hb : tw_rd h 0 j k = true) (ht : Nat.beq j 3 = false) (ex : x = S j) : k x = true := by
  unfold tw_rd at hb
  rw [tw_fN_eq] at hb
  split at hb
  · rename_i c hc
    have e := hM.2 j _ ht hc
    rw [ex, e]
    exact hb
  · exact absurd hb Bool.false_ne_true
theorem tw_rL_ok {n m : Int32} {h : tw_H} {S : Nat → Int32} {A : Nat → Nat → Int32} {i j : Nat} {k : tw_V → Bool} {f : Nat → Int32} (hM : tw_M n m h S A) (hb : tw_rL h i j k = true) (hf : A i = f) (ht : tw_tr i = true) : ∃ v : tw_V, f j = tw_ev n m v ∧ k v = true := by
  unfold tw_rL at hb
  rw [tw_fN_eq] at hb
  split at hb
  · rename_i v hc
    have e := hM.1 i j _ ht hc
    rw [← hf]
    exact ⟨v, e, hb⟩
  · exact absurd hb Bool.false_ne_true
theorem tw_rSL_ok {n m : Int32} {h : tw_H} {S : Nat → Int32} {A : Nat → Nat → Int32} {j : Nat} {k : tw_V → Bool} (hM : tw_M n m h S A) (hb : tw_rL h 0 j k = true) (ht : Nat.beq j 3 = false) : ∃ v : tw_V, S j = tw_ev n m v ∧ k v = true := by
  unfold tw_rL at hb
  rw [tw_fN_eq] at hb
  split at hb
  · rename_i v hc
    exact ⟨v, hM.2 j _ ht hc, hb⟩
  · exact absurd hb Bool.false_ne_true
theorem tw_beq {a b : Nat} (h : Nat.beq a b = true) : a = b := Nat.eq_of_beq_eq_true h
theorem tw_bne {a b : Nat} (h : Nat.beq a b = false) : a ≠ b := Nat.ne_of_beq_eq_false h
theorem tw_lk_cons (e : Nat × Nat × tw_V) (t : tw_H) (i j : Nat) : tw_lk (e :: t) i j = bif (Nat.beq e.1 i && Nat.beq e.2.1 j) then some e.2.2 else tw_lk t i j := rfl
theorem tw_st_s (A : Nat → Nat → Int32) (i : Nat) (f : Nat → Int32) : tw_st A i f i = f := by
  unfold tw_st
  rw [show Nat.beq i i = true from Nat.beq_refl i]
  rfl
theorem tw_st_n (A : Nat → Nat → Int32) {i k : Nat} (f : Nat → Int32) (h : k ≠ i) : tw_st A i f k = A k := by
  unfold tw_st
  cases e : Nat.beq k i
  · rfl
  · exact absurd (tw_beq e) h
theorem tw_put {n m : Int32} {h : tw_H} {S : Nat → Int32} {A : Nat → Nat → Int32} {i j : Nat} {f g : Nat → Int32} {x : Int32} {v : tw_V} (hM : tw_M n m h S A) (hg : A i = g) (hi : Nat.beq i 0 = false) (e : f = upd g j x) (hx : x = tw_ev n m v) : tw_M n m ((i, j, v) :: h) S (tw_st A i f) := by
  refine ⟨fun i' j' v' ht hl => ?_, fun j' v' ht hl => ?_⟩
  · rw [tw_lk_cons] at hl
    dsimp only at hl
    by_cases hii : i = i'
    · subst hii
      rw [tw_st_s, e]
      by_cases hjj : j = j'
      · subst hjj
        rw [show Nat.beq i i = true from Nat.beq_refl i, show Nat.beq j j = true from Nat.beq_refl j] at hl
        have hv : v = v' := Option.some.inj hl
        rw [pk_us, hx, hv]
      · rw [pk_un (fun z => hjj z.symm), ← hg]
        refine hM.1 i j' v' ht ?_
        cases hjb : Nat.beq j j'
        · rw [hjb, Bool.and_false] at hl
          exact hl
        · exact absurd (tw_beq hjb) hjj
    · rw [tw_st_n A f (fun z => hii z.symm)]
      refine hM.1 i' j' v' ht ?_
      cases hib : Nat.beq i i'
      · rw [hib, Bool.false_and] at hl
        exact hl
      · exact absurd (tw_beq hib) hii
  · rw [tw_lk_cons] at hl
    dsimp only at hl
    rw [hi, Bool.false_and] at hl
    exact hM.2 j' v' ht hl
theorem tw_putS {n m : Int32} {h : tw_H} {S : Nat → Int32} {A : Nat → Nat → Int32} {j : Nat} {x : Int32} {v : tw_V} (hM : tw_M n m h S A) (hx : x = tw_ev n m v) : tw_M n m ((0, j, v) :: h) (upd S j x) A := by
  refine ⟨fun i' j' v' ht hl => ?_, fun j' v' ht hl => ?_⟩
  · rw [tw_lk_cons] at hl
    dsimp only at hl
    refine hM.1 i' j' v' ht ?_
    cases hib : Nat.beq 0 i'
    · rw [hib, Bool.false_and] at hl
      exact hl
    · rw [← tw_beq hib] at ht
      exact absurd ht (by decide)
  · rw [tw_lk_cons] at hl
    dsimp only at hl
    by_cases hjj : j = j'
    · subst hjj
      rw [show Nat.beq 0 0 = true from rfl, show Nat.beq j j = true from Nat.beq_refl j] at hl
      have hv : v = v' := Option.some.inj hl
      rw [pk_us, hx, hv]
    · rw [pk_un (fun z => hjj z.symm)]
      refine hM.2 j' v' ht ?_
      cases hjb : Nat.beq j j'
      · rw [hjb, Bool.and_false] at hl
        exact hl
      · exact absurd (tw_beq hjb) hjj
theorem tw_wr_ok {n m : Int32} {h : tw_H} {S : Nat → Int32} {A : Nat → Nat → Int32} {i j : Nat} {k : tw_H → Bool} {f g : Nat → Int32} {v : Int32} (hM : tw_M n m h S A) (hb : tw_wr h i j v k = true) (hg : A i = g) (hi : Nat.beq i 0 = false) (e : f = upd g j v) : ∃ h' : tw_H, tw_M n m h' S (tw_st A i f) ∧ k h' = true := by
  rw [tw_wr_eq] at hb
  exact ⟨_, tw_put hM hg hi e (tw_evC n m v), hb⟩
theorem tw_wL_ok {n m : Int32} {h : tw_H} {S : Nat → Int32} {A : Nat → Nat → Int32} {i j : Nat} {k : tw_H → Bool} {f g : Nat → Int32} {x : Int32} {v : tw_V} (hM : tw_M n m h S A) (hb : tw_wL h i j v k = true) (hg : A i = g) (hi : Nat.beq i 0 = false) (e : f = upd g j x) (hx : x = tw_ev n m v) : ∃ h' : tw_H, tw_M n m h' S (tw_st A i f) ∧ k h' = true := by
  rw [tw_wL_eq] at hb
  exact ⟨_, tw_put hM hg hi e hx, hb⟩
theorem tw_wS_ok {n m : Int32} {h : tw_H} {S : Nat → Int32} {A : Nat → Nat → Int32} {j : Nat} {k : tw_H → Bool} {v : Int32} (hM : tw_M n m h S A) (hb : tw_wr h 0 j v k = true) : ∃ h' : tw_H, tw_M n m h' (upd S j v) A ∧ k h' = true := by
  rw [tw_wr_eq] at hb
  exact ⟨_, tw_putS hM (tw_evC n m v), hb⟩
theorem tw_wSL_ok {n m : Int32} {h : tw_H} {S : Nat → Int32} {A : Nat → Nat → Int32} {j : Nat} {k : tw_H → Bool} {x : Int32} {v : tw_V} (hM : tw_M n m h S A) (hb : tw_wL h 0 j v k = true) (hx : x = tw_ev n m v) : ∃ h' : tw_H, tw_M n m h' (upd S j x) A ∧ k h' = true := by
  rw [tw_wL_eq] at hb
  exact ⟨_, tw_putS hM hx, hb⟩
theorem tw_wS3 {n m : Int32} {h : tw_H} {S : Nat → Int32} {A : Nat → Nat → Int32} {x : Int32} (hM : tw_M n m h S A) : tw_M n m h (upd S 3 x) A :=
  ⟨hM.1, fun j v ht hl => by rw [pk_un (tw_bne ht)]; exact hM.2 j v ht hl⟩
theorem tw_stU {n m : Int32} {h : tw_H} {S : Nat → Int32} {A : Nat → Nat → Int32} {i : Nat} {f : Nat → Int32} (hM : tw_M n m h S A) (ht : tw_tr i = false) : tw_M n m h S (tw_st A i f) := by
  refine ⟨fun i' j v hr hl => ?_, hM.2⟩
  rw [tw_st_n A f (fun z => by rw [z, ht] at hr; exact Bool.false_ne_true hr)]
  exact hM.1 i' j v hr hl
theorem tw_flt0 (mk : Nat) (h : tw_H) (i j : Nat) (v : tw_V) : tw_lk (h.filter (fun e => Nat.testBit mk e.1)) i j = some v → Nat.testBit mk i = true := by
  induction h with
  | nil => intro hl; exact absurd hl.symm (Option.some_ne_none v)
  | cons e t ih =>
    intro hl
    rw [List.filter_cons] at hl
    cases hb : Nat.testBit mk e.1
    · rw [hb] at hl
      exact ih hl
    · rw [hb, if_pos rfl, tw_lk_cons] at hl
      cases hc : (Nat.beq e.1 i && Nat.beq e.2.1 j)
      · rw [hc] at hl
        exact ih hl
      · rw [Bool.and_eq_true] at hc
        rw [← tw_beq hc.1]
        exact hb
theorem tw_flt (mk : Nat) (h : tw_H) (i j : Nat) (v : tw_V) : tw_lk (h.filter (fun e => Nat.testBit mk e.1)) i j = some v → tw_lk h i j = some v := by
  induction h with
  | nil => intro hl; exact hl
  | cons e t ih =>
    intro hl
    have ht := tw_flt0 mk (e :: t) i j v hl
    rw [List.filter_cons] at hl
    rw [tw_lk_cons]
    cases hb : Nat.testBit mk e.1
    · rw [hb] at hl
      have hl2 := ih hl
      cases hc : (Nat.beq e.1 i && Nat.beq e.2.1 j)
      · exact hl2
      · rw [Bool.and_eq_true] at hc
        rw [tw_beq hc.1, ht] at hb
        exact absurd hb.symm Bool.false_ne_true
    · rw [hb, if_pos rfl, tw_lk_cons] at hl
      cases hc : (Nat.beq e.1 i && Nat.beq e.2.1 j)
      · rw [hc] at hl
        exact ih hl
      · rw [hc] at hl
        exact hl
theorem tw_keep_ok {n m : Int32} {h : tw_H} {S : Nat → Int32} {A : Nat → Nat → Int32} {mk : Nat} {k : tw_H → Bool} (hM : tw_M n m h S A) (hb : tw_keep mk h k = true) : ∃ h' : tw_H, tw_M n m h' S A ∧ k h' = true := by
  rw [tw_keep_eq] at hb
  exact ⟨_, ⟨fun i j v ht hl => hM.1 i j v ht (tw_flt mk h i j v hl), fun j v ht hl => hM.2 j v ht (tw_flt mk h 0 j v hl)⟩, hb⟩
/-- a value written that is there already -/
theorem tw_same {n m : Int32} {h : tw_H} {S : Nat → Int32} {A : Nat → Nat → Int32} {i j : Nat} {v : tw_V} (hM : tw_M n m h S A) (hi : Nat.beq i 0 = false) (hv : A i j = tw_ev n m v) : tw_M n m ((i, j, v) :: h) S A := by
  have t := tw_put (f := A i) (x := A i j) (j := j) hM rfl hi (by
    funext k
    by_cases hk : k = j
    · rw [hk, pk_us]
    · rw [pk_un hk]) hv
  have e : tw_st A i (A i) = A := by
    funext k
    by_cases hk : k = i
    · rw [hk, tw_st_s]
    · rw [tw_st_n A (A i) hk]
  rw [e] at t
  exact t
theorem tw_wL_same {n m : Int32} {h : tw_H} {S : Nat → Int32} {A : Nat → Nat → Int32} {i j : Nat} {k : tw_H → Bool} {v : tw_V} (hM : tw_M n m h S A) (hb : tw_wL h i j v k = true) (hi : Nat.beq i 0 = false) (hv : A i j = tw_ev n m v) : ∃ h' : tw_H, tw_M n m h' S A ∧ k h' = true := by
  rw [tw_wL_eq] at hb
  exact ⟨_, tw_same hM hi hv, hb⟩
theorem tw_wr_same {n m : Int32} {h : tw_H} {S : Nat → Int32} {A : Nat → Nat → Int32} {i j : Nat} {k : tw_H → Bool} {v : Int32} (hM : tw_M n m h S A) (hb : tw_wr h i j v k = true) (hi : Nat.beq i 0 = false) (hv : A i j = v) : ∃ h' : tw_H, tw_M n m h' S A ∧ k h' = true := by
  rw [tw_wr_eq] at hb
  exact ⟨_, tw_same hM hi (hv.trans (tw_evC n m v)), hb⟩
end
section
def tb_bad (q : Int32 → Bool) (p0 : Int32) (h : tw_H) : Bool := (if p0 < (0 : Int32) then q (1 : Int32) else tw_rd h 0 0 (fun v2 => (if p0 < v2 then q (0 : Int32) else q (1 : Int32))))
theorem ts_bad {n m : Int32} {post : Int32 → Prop} {q : Int32 → Bool} {p0 : Int32} {h : tw_H} {S : Nat → Int32} {A : Nat → Nat → Int32} (hq : ∀ (r : Int32), q r = true → post r) (hM : tw_M n m h S A) (hb : tb_bad q p0 h = true) : wpX_bad post (S 0, S 1, S 2, S 3, A 1, A 2, A 3, A 4, A 5, A 6, A 7, A 8, A 9, A 10, A 11, A 12, A 13, A 14, A 15, A 16, A 17, A 18, A 19, A 20, A 21, A 22, A 23, A 24, A 25) p0 := by
  unfold tb_bad at hb
  unfold wpX_bad
  refine And.intro (fun hc1 => ?_) (fun hc1 => ?_)
  · replace hb := tw_bt hc1 hb
    exact hq _ hb
  · replace hb := tw_bf hc1 hb
    replace hb := tw_rS_ok hM hb (by decide) rfl
    refine And.intro (fun hc3 => ?_) (fun hc3 => ?_)
    · replace hb := tw_bt hc3 hb
      exact hq _ hb
    · replace hb := tw_bf hc3 hb
      exact hq _ hb
def tb_linkChildren_30 (q : tw_H → Bool) : Nat → Int32 → tw_H → Bool
  | 0 => fun _ _ => false
  | kk + 1 => fun x1 h => (if x1 ≤ (0 : Int32) then q h else (tw_in x1 24 && tw_rd h 1 (x1).toNatClampNeg (fun v3 => (tw_in v3 24 && tw_rd h 2 (v3).toNatClampNeg (fun v5 => tw_wr h 3 (x1).toNatClampNeg v5 (fun h6 => tw_wr h6 2 (v3).toNatClampNeg x1 (fun h7 => tw_f (x1 + (-(1 : Int32))) (fun x1_11 => tb_linkChildren_30 q kk x1_11 h7))))))))
theorem ts_linkChildren_30 {n m : Int32} {post : St2 → Prop} {q : tw_H → Bool} (hq : ∀ (h : tw_H) (S : Nat → Int32) (A : Nat → Nat → Int32), tw_M n m h S A → q h = true → post (S 0, S 1, S 2, S 3, A 1, A 2, A 3, A 4, A 5, A 6, A 7, A 8, A 9, A 10, A 11, A 12, A 13, A 14, A 15, A 16, A 17, A 18, A 19, A 20, A 21, A 22, A 23, A 24, A 25)) : ∀ (kk : Nat) (x1 : Int32) (h : tw_H) (S : Nat → Int32) (A : Nat → Nat → Int32), tw_M n m h S A → tb_linkChildren_30 q kk x1 h = true → wX_linkChildren_30 post (S 0) (S 1) (S 2) (S 3) kk x1 (A 1) (A 2) (A 3) (A 4) (A 5) (A 6) (A 7) (A 8) (A 9) (A 10) (A 11) (A 12) (A 13) (A 14) (A 15) (A 16) (A 17) (A 18) (A 19) (A 20) (A 21) (A 22) (A 23) (A 24) (A 25) := by
  intro kk
  induction kk with
  | zero => intro x1 h S A hM hb; exact (Bool.false_ne_true hb).elim
  | succ kk ih =>
    intro x1 h S A hM hb
    unfold tb_linkChildren_30 at hb
    unfold wX_linkChildren_30
    refine And.intro (fun hc1 => ?_) (fun hc1 => ?_)
    · replace hb := tw_bt hc1 hb
      exact hq _ S A hM hb
    · replace hb := tw_bf hc1 hb
      have hi2 := (tw_in_ok hb).1
      replace hb := (tw_in_ok hb).2
      refine And.intro hi2 ?_
      replace hb := tw_rd_ok (f := (A 1)) hM hb rfl rfl rfl
      have hi4 := (tw_in_ok hb).1
      replace hb := (tw_in_ok hb).2
      refine And.intro hi4 ?_
      refine And.intro hi2 ?_
      replace hb := tw_rd_ok (f := (A 2)) hM hb rfl rfl rfl
      intro a3_7 e_a3_7
      obtain ⟨h6, hM, hb⟩ := tw_wr_ok (g := (A 3)) hM hb rfl rfl e_a3_7
      refine And.intro hi2 ?_
      refine And.intro hi4 ?_
      intro a2_10 e_a2_10
      obtain ⟨h7, hM, hb⟩ := tw_wr_ok (g := (A 2)) hM hb rfl rfl e_a2_10
      intro x1_11 e_x1_11
      replace hb := tw_f_ok hb e_x1_11
      exact ih _ _ S (tw_st (tw_st A 3 a3_7) 2 a2_10) hM hb
def tb_linkChildren_2 (q : tw_H → Bool) : Nat → Int32 → tw_H → Bool
  | 0 => fun _ _ => false
  | kk + 1 => fun x1 h => tw_rd h 0 0 (fun v1 => (if v1 ≤ x1 then tw_f (v1 - (1 : Int32)) (fun x1_2 => tb_linkChildren_30 q 650 x1_2 h) else (tw_in x1 24 && tw_wr h 2 (x1).toNatClampNeg (-(1 : Int32)) (fun h4 => tw_f (x1 + (1 : Int32)) (fun x1_14 => tb_linkChildren_2 q kk x1_14 h4)))))
theorem ts_linkChildren_2 {n m : Int32} {post : St2 → Prop} {q : tw_H → Bool} (hq : ∀ (h : tw_H) (S : Nat → Int32) (A : Nat → Nat → Int32), tw_M n m h S A → q h = true → post (S 0, S 1, S 2, S 3, A 1, A 2, A 3, A 4, A 5, A 6, A 7, A 8, A 9, A 10, A 11, A 12, A 13, A 14, A 15, A 16, A 17, A 18, A 19, A 20, A 21, A 22, A 23, A 24, A 25)) : ∀ (kk : Nat) (x1 : Int32) (h : tw_H) (S : Nat → Int32) (A : Nat → Nat → Int32), tw_M n m h S A → tb_linkChildren_2 q kk x1 h = true → wX_linkChildren_2 post (S 0) (S 1) (S 2) (S 3) kk x1 (A 1) (A 2) (A 3) (A 4) (A 5) (A 6) (A 7) (A 8) (A 9) (A 10) (A 11) (A 12) (A 13) (A 14) (A 15) (A 16) (A 17) (A 18) (A 19) (A 20) (A 21) (A 22) (A 23) (A 24) (A 25) := by
  intro kk
  induction kk with
  | zero => intro x1 h S A hM hb; exact (Bool.false_ne_true hb).elim
  | succ kk ih =>
    intro x1 h S A hM hb
    unfold tb_linkChildren_2 at hb
    unfold wX_linkChildren_2
    replace hb := tw_rS_ok hM hb (by decide) rfl
    refine And.intro (fun hc2 => ?_) (fun hc2 => ?_)
    · replace hb := tw_bt hc2 hb
      intro x1_2 e_x1_2
      replace hb := tw_f_ok hb e_x1_2
      refine Exists.intro 650 ?_
      exact ts_linkChildren_30 hq _ _ _ S A hM hb
    · replace hb := tw_bf hc2 hb
      have hi3 := (tw_in_ok hb).1
      replace hb := (tw_in_ok hb).2
      refine And.intro hi3 ?_
      intro a2_13 e_a2_13
      obtain ⟨h4, hM, hb⟩ := tw_wr_ok (g := (A 2)) hM hb rfl rfl e_a2_13
      intro x1_14 e_x1_14
      replace hb := tw_f_ok hb e_x1_14
      exact ih _ _ S (tw_st A 2 a2_13) hM hb
def tb_linkChildren (q : tw_H → Bool) (h : tw_H) : Bool := tb_linkChildren_2 q 650 (0 : Int32) h
theorem ts_linkChildren {n m : Int32} {post : St2 → Prop} {q : tw_H → Bool} {h : tw_H} {S : Nat → Int32} {A : Nat → Nat → Int32} (hq : ∀ (h : tw_H) (S : Nat → Int32) (A : Nat → Nat → Int32), tw_M n m h S A → q h = true → post (S 0, S 1, S 2, S 3, A 1, A 2, A 3, A 4, A 5, A 6, A 7, A 8, A 9, A 10, A 11, A 12, A 13, A 14, A 15, A 16, A 17, A 18, A 19, A 20, A 21, A 22, A 23, A 24, A 25)) (hM : tw_M n m h S A) (hb : tb_linkChildren q h = true) : wpX_linkChildren post (S 0, S 1, S 2, S 3, A 1, A 2, A 3, A 4, A 5, A 6, A 7, A 8, A 9, A 10, A 11, A 12, A 13, A 14, A 15, A 16, A 17, A 18, A 19, A 20, A 21, A 22, A 23, A 24, A 25) := by
  unfold tb_linkChildren at hb
  unfold wpX_linkChildren
  refine Exists.intro 650 ?_
  exact ts_linkChildren_2 hq _ _ _ S A hM hb
def tb_measure_124 (q : tw_H → Bool) : Nat → Int32 → tw_H → Bool
  | 0 => fun _ _ => false
  | kk + 1 => fun x2 h => (if x2 ≤ (0 : Int32) then q h else (tw_in x2 24 && tw_rd h 5 (x2).toNatClampNeg (fun x3_9 => (tw_in x3_9 24 && tw_rd h 1 (x3_9).toNatClampNeg (fun x4_11 => (tw_in x4_11 24 && tw_rd h 6 (x4_11).toNatClampNeg (fun v5 => tw_rd h 6 (x3_9).toNatClampNeg (fun v6 => tw_wr h 6 (x4_11).toNatClampNeg (v5 + v6) (fun h7 => tw_rd h7 8 (x4_11).toNatClampNeg (fun v8 => (if v8 < (0 : Int32) then tw_wr h7 8 (x4_11).toNatClampNeg x3_9 (fun h10 => tw_f (x2 + (-(1 : Int32))) (fun x2_20 => tb_measure_124 q kk x2_20 h10)) else (tw_in v8 24 && tw_rd h7 6 (x3_9).toNatClampNeg (fun v12 => tw_rd h7 6 (v8).toNatClampNeg (fun v13 => (if v12 ≤ v13 then tw_f (x2 + (-(1 : Int32))) (fun x2_25 => tb_measure_124 q kk x2_25 h7) else tw_wr h7 8 (x4_11).toNatClampNeg x3_9 (fun h15 => tw_f (x2 + (-(1 : Int32))) (fun x2_28 => tb_measure_124 q kk x2_28 h15)))))))))))))))))
theorem ts_measure_124 {n m : Int32} {post : St2 → Prop} {q : tw_H → Bool} (hq : ∀ (h : tw_H) (S : Nat → Int32) (A : Nat → Nat → Int32), tw_M n m h S A → q h = true → post (S 0, S 1, S 2, S 3, A 1, A 2, A 3, A 4, A 5, A 6, A 7, A 8, A 9, A 10, A 11, A 12, A 13, A 14, A 15, A 16, A 17, A 18, A 19, A 20, A 21, A 22, A 23, A 24, A 25)) : ∀ (kk : Nat) (x2 : Int32) (h : tw_H) (S : Nat → Int32) (A : Nat → Nat → Int32), tw_M n m h S A → tb_measure_124 q kk x2 h = true → wX_measure_124 post (S 0) (S 1) (S 2) (S 3) kk x2 (A 1) (A 2) (A 3) (A 4) (A 5) (A 6) (A 7) (A 8) (A 9) (A 10) (A 11) (A 12) (A 13) (A 14) (A 15) (A 16) (A 17) (A 18) (A 19) (A 20) (A 21) (A 22) (A 23) (A 24) (A 25) := by
  intro kk
  induction kk with
  | zero => intro x2 h S A hM hb; exact (Bool.false_ne_true hb).elim
  | succ kk ih =>
    intro x2 h S A hM hb
    unfold tb_measure_124 at hb
    unfold wX_measure_124
    refine And.intro (fun hc1 => ?_) (fun hc1 => ?_)
    · replace hb := tw_bt hc1 hb
      exact hq _ S A hM hb
    · replace hb := tw_bf hc1 hb
      have hi2 := (tw_in_ok hb).1
      replace hb := (tw_in_ok hb).2
      refine And.intro hi2 ?_
      intro x3_9 e_x3_9
      replace hb := tw_rd_ok (f := (A 5)) hM hb rfl rfl e_x3_9
      have hi3 := (tw_in_ok hb).1
      replace hb := (tw_in_ok hb).2
      refine And.intro hi3 ?_
      intro x4_11 e_x4_11
      replace hb := tw_rd_ok (f := (A 1)) hM hb rfl rfl e_x4_11
      have hi4 := (tw_in_ok hb).1
      replace hb := (tw_in_ok hb).2
      refine And.intro hi4 ?_
      refine And.intro hi3 ?_
      refine And.intro hi4 ?_
      replace hb := tw_rd_ok (f := (A 6)) hM hb rfl rfl rfl
      replace hb := tw_rd_ok (f := (A 6)) hM hb rfl rfl rfl
      intro a6_15 e_a6_15
      obtain ⟨h7, hM, hb⟩ := tw_wr_ok (g := (A 6)) hM hb rfl rfl e_a6_15
      refine And.intro hi4 ?_
      replace hb := tw_rd_ok (f := (A 8)) hM hb rfl rfl rfl
      refine And.intro (fun hc9 => ?_) (fun hc9 => ?_)
      · replace hb := tw_bt hc9 hb
        refine And.intro hi4 ?_
        intro a8_19 e_a8_19
        obtain ⟨h10, hM, hb⟩ := tw_wr_ok (g := (A 8)) hM hb rfl rfl e_a8_19
        intro x2_20 e_x2_20
        replace hb := tw_f_ok hb e_x2_20
        exact ih _ _ S (tw_st (tw_st A 6 a6_15) 8 a8_19) hM hb
      · replace hb := tw_bf hc9 hb
        refine And.intro hi3 ?_
        refine And.intro hi4 ?_
        have hi11 := (tw_in_ok hb).1
        replace hb := (tw_in_ok hb).2
        refine And.intro hi11 ?_
        replace hb := tw_rd_ok (f := a6_15) hM hb rfl rfl rfl
        replace hb := tw_rd_ok (f := a6_15) hM hb rfl rfl rfl
        refine And.intro (fun hc14 => ?_) (fun hc14 => ?_)
        · replace hb := tw_bt hc14 hb
          intro x2_25 e_x2_25
          replace hb := tw_f_ok hb e_x2_25
          exact ih _ _ S (tw_st A 6 a6_15) hM hb
        · replace hb := tw_bf hc14 hb
          refine And.intro hi4 ?_
          intro a8_27 e_a8_27
          obtain ⟨h15, hM, hb⟩ := tw_wr_ok (g := (A 8)) hM hb rfl rfl e_a8_27
          intro x2_28 e_x2_28
          replace hb := tw_f_ok hb e_x2_28
          exact ih _ _ S (tw_st (tw_st A 6 a6_15) 8 a8_27) hM hb
def tb_measure_61 (q : tw_H → Bool) (j18b : Int32 → Int32 → tw_H → Bool) (x2 : Int32) (x3 : Int32) : Nat → Int32 → Int32 → Int32 → tw_H → Bool
  | 0 => fun _ _ _ _ => false
  | kk + 1 => fun x1 x4 x5 h => (if (24 : Int32) ≤ x5 then tw_f (x2 + (1 : Int32)) (fun x2_40 => j18b x1 x2_40 h) else (if x4 < (0 : Int32) then tw_f (x2 + (1 : Int32)) (fun x2_42 => j18b x1 x2_42 h) else (tw_in x3 24 && (tw_in x4 24 && tw_rd h 7 (x3).toNatClampNeg (fun v5 => tw_wr h 7 (x4).toNatClampNeg (v5 + (1 : Int32)) (fun h6 => (tw_in x1 24 && tw_wr h6 5 (x1).toNatClampNeg x4 (fun h8 => tw_f (x1 + (1 : Int32)) (fun x1_48 => tw_rd h8 3 (x4).toNatClampNeg (fun x4_50 => tw_f (x5 + (1 : Int32)) (fun x5_51 => tb_measure_61 q j18b x2 x3 kk x1_48 x4_50 x5_51 h8)))))))))))
theorem ts_measure_61 {n m : Int32} {post : St2 → Prop} {q : tw_H → Bool} {J18 : Int32 → Int32 → (Nat → Int32) → (Nat → Int32) → (Nat → Int32) → (Nat → Int32) → (Nat → Int32) → (Nat → Int32) → (Nat → Int32) → (Nat → Int32) → (Nat → Int32) → (Nat → Int32) → (Nat → Int32) → (Nat → Int32) → (Nat → Int32) → (Nat → Int32) → (Nat → Int32) → (Nat → Int32) → (Nat → Int32) → (Nat → Int32) → (Nat → Int32) → (Nat → Int32) → (Nat → Int32) → (Nat → Int32) → (Nat → Int32) → (Nat → Int32) → (Nat → Int32) → Prop} {j18b : Int32 → Int32 → tw_H → Bool} {x2 : Int32} {x3 : Int32} {S : Nat → Int32} (hq : ∀ (h : tw_H) (S : Nat → Int32) (A : Nat → Nat → Int32), tw_M n m h S A → q h = true → post (S 0, S 1, S 2, S 3, A 1, A 2, A 3, A 4, A 5, A 6, A 7, A 8, A 9, A 10, A 11, A 12, A 13, A 14, A 15, A 16, A 17, A 18, A 19, A 20, A 21, A 22, A 23, A 24, A 25)) (hJ18 : ∀ (x1 x2 : Int32) (h : tw_H) (A1 : Nat → Nat → Int32), tw_M n m h S A1 → j18b x1 x2 h = true → J18 x1 x2 (A1 1) (A1 2) (A1 3) (A1 4) (A1 5) (A1 6) (A1 7) (A1 8) (A1 9) (A1 10) (A1 11) (A1 12) (A1 13) (A1 14) (A1 15) (A1 16) (A1 17) (A1 18) (A1 19) (A1 20) (A1 21) (A1 22) (A1 23) (A1 24) (A1 25)) : ∀ (kk : Nat) (x1 x4 x5 : Int32) (h : tw_H) (A : Nat → Nat → Int32), tw_M n m h S A → tb_measure_61 q j18b x2 x3 kk x1 x4 x5 h = true → wX_measure_61 post J18 x2 x3 (S 0) (S 1) (S 2) (S 3) kk x1 x4 x5 (A 1) (A 2) (A 3) (A 4) (A 5) (A 6) (A 7) (A 8) (A 9) (A 10) (A 11) (A 12) (A 13) (A 14) (A 15) (A 16) (A 17) (A 18) (A 19) (A 20) (A 21) (A 22) (A 23) (A 24) (A 25) := by
  intro kk
  induction kk with
  | zero => intro x1 x4 x5 h A hM hb; exact (Bool.false_ne_true hb).elim
  | succ kk ih =>
    intro x1 x4 x5 h A hM hb
    unfold tb_measure_61 at hb
    unfold wX_measure_61
    refine And.intro (fun hc1 => ?_) (fun hc1 => ?_)
    · replace hb := tw_bt hc1 hb
      intro x2_40 e_x2_40
      replace hb := tw_f_ok hb e_x2_40
      exact hJ18 _ _ _ A hM hb
    · replace hb := tw_bf hc1 hb
      refine And.intro (fun hc2 => ?_) (fun hc2 => ?_)
      · replace hb := tw_bt hc2 hb
        intro x2_42 e_x2_42
        replace hb := tw_f_ok hb e_x2_42
        exact hJ18 _ _ _ A hM hb
      · replace hb := tw_bf hc2 hb
        have hi3 := (tw_in_ok hb).1
        replace hb := (tw_in_ok hb).2
        refine And.intro hi3 ?_
        have hi4 := (tw_in_ok hb).1
        replace hb := (tw_in_ok hb).2
        refine And.intro hi4 ?_
        replace hb := tw_rd_ok (f := (A 7)) hM hb rfl rfl rfl
        intro a7_45 e_a7_45
        obtain ⟨h6, hM, hb⟩ := tw_wr_ok (g := (A 7)) hM hb rfl rfl e_a7_45
        have hi7 := (tw_in_ok hb).1
        replace hb := (tw_in_ok hb).2
        refine And.intro hi7 ?_
        intro a5_47 e_a5_47
        obtain ⟨h8, hM, hb⟩ := tw_wr_ok (g := (A 5)) hM hb rfl rfl e_a5_47
        intro x1_48 e_x1_48
        replace hb := tw_f_ok hb e_x1_48
        refine And.intro hi4 ?_
        intro x4_50 e_x4_50
        replace hb := tw_rd_ok (f := (A 3)) hM hb rfl rfl e_x4_50
        intro x5_51 e_x5_51
        replace hb := tw_f_ok hb e_x5_51
        exact ih _ _ _ _ (tw_st (tw_st A 7 a7_45) 5 a5_47) hM hb
def tb_measure_18 (q : tw_H → Bool) : Nat → Int32 → Int32 → tw_H → Bool
  | 0 => fun _ _ _ => false
  | kk + 1 => fun x1 x2 h => (if x1 ≤ x2 then tw_f (x1 - (1 : Int32)) (fun x2_6 => tb_measure_124 q 650 x2_6 h) else (if (24 : Int32) ≤ x2 then tw_f (x1 - (1 : Int32)) (fun x2_30 => tb_measure_124 q 650 x2_30 h) else (tw_in x2 24 && tw_rd h 5 (x2).toNatClampNeg (fun x3_32 => (tw_in x3_32 24 && tw_wr h 6 (x3_32).toNatClampNeg (1 : Int32) (fun h5 => tw_wr h5 8 (x3_32).toNatClampNeg (-(1 : Int32)) (fun h6 => tw_rd h6 2 (x3_32).toNatClampNeg (fun x4_38 => tb_measure_61 q (tb_measure_18 q kk) x2 x3_32 650 x1 x4_38 (0 : Int32) h6))))))))
theorem ts_measure_18 {n m : Int32} {post : St2 → Prop} {q : tw_H → Bool} (hq : ∀ (h : tw_H) (S : Nat → Int32) (A : Nat → Nat → Int32), tw_M n m h S A → q h = true → post (S 0, S 1, S 2, S 3, A 1, A 2, A 3, A 4, A 5, A 6, A 7, A 8, A 9, A 10, A 11, A 12, A 13, A 14, A 15, A 16, A 17, A 18, A 19, A 20, A 21, A 22, A 23, A 24, A 25)) : ∀ (kk : Nat) (x1 x2 : Int32) (h : tw_H) (S : Nat → Int32) (A : Nat → Nat → Int32), tw_M n m h S A → tb_measure_18 q kk x1 x2 h = true → wX_measure_18 post (S 0) (S 1) (S 2) (S 3) kk x1 x2 (A 1) (A 2) (A 3) (A 4) (A 5) (A 6) (A 7) (A 8) (A 9) (A 10) (A 11) (A 12) (A 13) (A 14) (A 15) (A 16) (A 17) (A 18) (A 19) (A 20) (A 21) (A 22) (A 23) (A 24) (A 25) := by
  intro kk
  induction kk with
  | zero => intro x1 x2 h S A hM hb; exact (Bool.false_ne_true hb).elim
  | succ kk ih =>
    intro x1 x2 h S A hM hb
    unfold tb_measure_18 at hb
    unfold wX_measure_18
    refine And.intro (fun hc1 => ?_) (fun hc1 => ?_)
    · replace hb := tw_bt hc1 hb
      intro x2_6 e_x2_6
      replace hb := tw_f_ok hb e_x2_6
      refine Exists.intro 650 ?_
      exact ts_measure_124 hq _ _ _ S A hM hb
    · replace hb := tw_bf hc1 hb
      refine And.intro (fun hc2 => ?_) (fun hc2 => ?_)
      · replace hb := tw_bt hc2 hb
        intro x2_30 e_x2_30
        replace hb := tw_f_ok hb e_x2_30
        refine Exists.intro 650 ?_
        exact ts_measure_124 hq _ _ _ S A hM hb
      · replace hb := tw_bf hc2 hb
        have hi3 := (tw_in_ok hb).1
        replace hb := (tw_in_ok hb).2
        refine And.intro hi3 ?_
        intro x3_32 e_x3_32
        replace hb := tw_rd_ok (f := (A 5)) hM hb rfl rfl e_x3_32
        have hi4 := (tw_in_ok hb).1
        replace hb := (tw_in_ok hb).2
        refine And.intro hi4 ?_
        intro a6_34 e_a6_34
        obtain ⟨h5, hM, hb⟩ := tw_wr_ok (g := (A 6)) hM hb rfl rfl e_a6_34
        refine And.intro hi4 ?_
        intro a8_36 e_a8_36
        obtain ⟨h6, hM, hb⟩ := tw_wr_ok (g := (A 8)) hM hb rfl rfl e_a8_36
        refine And.intro hi4 ?_
        intro x4_38 e_x4_38
        replace hb := tw_rd_ok (f := (A 2)) hM hb rfl rfl e_x4_38
        refine Exists.intro 650 ?_
        exact ts_measure_61 (S := S) hq (fun y0 y1 h A1 hM hb => ih y0 y1 h S A1 hM hb) _ _ _ _ _ (tw_st (tw_st A 6 a6_34) 8 a8_36) hM hb
def tb_measure (q : tw_H → Bool) (h : tw_H) : Bool := tw_wr h 5 0 (0 : Int32) (fun h1 => tw_wr h1 7 0 (0 : Int32) (fun h2 => tb_measure_18 q 650 (1 : Int32) (0 : Int32) h2))
theorem ts_measure {n m : Int32} {post : St2 → Prop} {q : tw_H → Bool} {h : tw_H} {S : Nat → Int32} {A : Nat → Nat → Int32} (hq : ∀ (h : tw_H) (S : Nat → Int32) (A : Nat → Nat → Int32), tw_M n m h S A → q h = true → post (S 0, S 1, S 2, S 3, A 1, A 2, A 3, A 4, A 5, A 6, A 7, A 8, A 9, A 10, A 11, A 12, A 13, A 14, A 15, A 16, A 17, A 18, A 19, A 20, A 21, A 22, A 23, A 24, A 25)) (hM : tw_M n m h S A) (hb : tb_measure q h = true) : wpX_measure post (S 0, S 1, S 2, S 3, A 1, A 2, A 3, A 4, A 5, A 6, A 7, A 8, A 9, A 10, A 11, A 12, A 13, A 14, A 15, A 16, A 17, A 18, A 19, A 20, A 21, A 22, A 23, A 24, A 25) := by
  unfold tb_measure at hb
  unfold wpX_measure
  intro a5_2 e_a5_2
  obtain ⟨h1, hM, hb⟩ := tw_wr_ok (g := (A 5)) hM hb rfl rfl e_a5_2
  intro a7_4 e_a7_4
  obtain ⟨h2, hM, hb⟩ := tw_wr_ok (g := (A 7)) hM hb rfl rfl e_a7_4
  refine Exists.intro 650 ?_
  exact ts_measure_18 hq _ _ _ _ S (tw_st (tw_st A 5 a5_2) 7 a7_4) hM hb
def tb_layRow_121 (q : tw_H → Bool) (j18b : Int32 → Int32 → tw_H → Bool) (x1 : Int32) (x2 : Int32) (x3 : Int32) (h : tw_H) : Bool := (tw_in x3 24 && tw_rd h 8 (x3).toNatClampNeg (fun v2 => (if v2 < (0 : Int32) then tw_f (x2 + (1 : Int32)) (fun x2_19 => j18b x1 x2_19 h) else (tw_in v2 24 && tw_rd h 9 (x3).toNatClampNeg (fun v5 => tw_wr h 9 (v2).toNatClampNeg v5 (fun h6 => (tw_in x1 25 && tw_wr h6 12 (x1).toNatClampNeg v2 (fun h8 => tw_f (x1 + (1 : Int32)) (fun x1_27 => tw_f (x2 + (1 : Int32)) (fun x2_28 => j18b x1_27 x2_28 h8))))))))))
theorem ts_layRow_121 {n m : Int32} {post : St2 → Prop} {q : tw_H → Bool} {J18 : Int32 → Int32 → (Nat → Int32) → (Nat → Int32) → (Nat → Int32) → (Nat → Int32) → (Nat → Int32) → (Nat → Int32) → (Nat → Int32) → (Nat → Int32) → (Nat → Int32) → (Nat → Int32) → (Nat → Int32) → (Nat → Int32) → (Nat → Int32) → (Nat → Int32) → (Nat → Int32) → (Nat → Int32) → (Nat → Int32) → (Nat → Int32) → (Nat → Int32) → (Nat → Int32) → (Nat → Int32) → (Nat → Int32) → (Nat → Int32) → (Nat → Int32) → (Nat → Int32) → Prop} {j18b : Int32 → Int32 → tw_H → Bool} {x1 : Int32} {x2 : Int32} {x3 : Int32} {h : tw_H} {S : Nat → Int32} {A : Nat → Nat → Int32} (hq : ∀ (h : tw_H) (S : Nat → Int32) (A : Nat → Nat → Int32), tw_M n m h S A → q h = true → post (S 0, S 1, S 2, S 3, A 1, A 2, A 3, A 4, A 5, A 6, A 7, A 8, A 9, A 10, A 11, A 12, A 13, A 14, A 15, A 16, A 17, A 18, A 19, A 20, A 21, A 22, A 23, A 24, A 25)) (hJ18 : ∀ (x1 x2 : Int32) (h : tw_H) (A1 : Nat → Nat → Int32), tw_M n m h S A1 → j18b x1 x2 h = true → J18 x1 x2 (A1 1) (A1 2) (A1 3) (A1 4) (A1 5) (A1 6) (A1 7) (A1 8) (A1 9) (A1 10) (A1 11) (A1 12) (A1 13) (A1 14) (A1 15) (A1 16) (A1 17) (A1 18) (A1 19) (A1 20) (A1 21) (A1 22) (A1 23) (A1 24) (A1 25)) (hM : tw_M n m h S A) (hb : tb_layRow_121 q j18b x1 x2 x3 h = true) : wX_layRow_121 post J18 x1 x2 x3 (S 0) (S 1) (S 2) (S 3) (A 1) (A 2) (A 3) (A 4) (A 5) (A 6) (A 7) (A 8) (A 9) (A 10) (A 11) (A 12) (A 13) (A 14) (A 15) (A 16) (A 17) (A 18) (A 19) (A 20) (A 21) (A 22) (A 23) (A 24) (A 25) := by
  unfold tb_layRow_121 at hb
  unfold wX_layRow_121
  have hi1 := (tw_in_ok hb).1
  replace hb := (tw_in_ok hb).2
  refine And.intro hi1 ?_
  replace hb := tw_rd_ok (f := (A 8)) hM hb rfl rfl rfl
  refine And.intro (fun hc3 => ?_) (fun hc3 => ?_)
  · replace hb := tw_bt hc3 hb
    intro x2_19 e_x2_19
    replace hb := tw_f_ok hb e_x2_19
    exact hJ18 _ _ _ A hM hb
  · replace hb := tw_bf hc3 hb
    refine And.intro hi1 ?_
    refine And.intro hi1 ?_
    have hi4 := (tw_in_ok hb).1
    replace hb := (tw_in_ok hb).2
    refine And.intro hi4 ?_
    replace hb := tw_rd_ok (f := (A 9)) hM hb rfl rfl rfl
    intro a9_23 e_a9_23
    obtain ⟨h6, hM, hb⟩ := tw_wr_ok (g := (A 9)) hM hb rfl rfl e_a9_23
    refine And.intro hi1 ?_
    have hi7 := (tw_in_ok hb).1
    replace hb := (tw_in_ok hb).2
    refine And.intro hi7 ?_
    intro a12_26 e_a12_26
    obtain ⟨h8, hM, hb⟩ := tw_wr_ok (g := (A 12)) hM hb rfl rfl e_a12_26
    intro x1_27 e_x1_27
    replace hb := tw_f_ok hb e_x1_27
    intro x2_28 e_x2_28
    replace hb := tw_f_ok hb e_x2_28
    exact hJ18 _ _ _ (tw_st (tw_st A 9 a9_23) 12 a12_26) hM hb
def tb_layRow_63 (q : tw_H → Bool) (j18b : Int32 → Int32 → tw_H → Bool) (x2 : Int32) (x3 : Int32) : Nat → Int32 → Int32 → Int32 → tw_H → Bool
  | 0 => fun _ _ _ _ => false
  | kk + 1 => fun x1 x4 x5 h => (if (24 : Int32) ≤ x5 then tb_layRow_121 q j18b x1 x2 x3 h else (if x4 < (0 : Int32) then tb_layRow_121 q j18b x1 x2 x3 h else (tw_in x3 24 && tw_rd h 8 (x3).toNatClampNeg (fun v4 => (if x4 = v4 then (tw_in x4 24 && tw_rd h 3 (x4).toNatClampNeg (fun x4_33 => tw_f (x5 + (1 : Int32)) (fun x5_34 => tb_layRow_63 q j18b x2 x3 kk x1 x4_33 x5_34 h))) else (tw_in x4 24 && tw_wr h 9 (x4).toNatClampNeg x4 (fun h8 => (tw_in x1 25 && tw_wr h8 12 (x1).toNatClampNeg x4 (fun h10 => tw_f (x1 + (1 : Int32)) (fun x1_39 => tw_rd h10 3 (x4).toNatClampNeg (fun x4_41 => tw_f (x5 + (1 : Int32)) (fun x5_42 => tb_layRow_63 q j18b x2 x3 kk x1_39 x4_41 x5_42 h10))))))))))))
theorem ts_layRow_63 {n m : Int32} {post : St2 → Prop} {q : tw_H → Bool} {J18 : Int32 → Int32 → (Nat → Int32) → (Nat → Int32) → (Nat → Int32) → (Nat → Int32) → (Nat → Int32) → (Nat → Int32) → (Nat → Int32) → (Nat → Int32) → (Nat → Int32) → (Nat → Int32) → (Nat → Int32) → (Nat → Int32) → (Nat → Int32) → (Nat → Int32) → (Nat → Int32) → (Nat → Int32) → (Nat → Int32) → (Nat → Int32) → (Nat → Int32) → (Nat → Int32) → (Nat → Int32) → (Nat → Int32) → (Nat → Int32) → (Nat → Int32) → (Nat → Int32) → Prop} {j18b : Int32 → Int32 → tw_H → Bool} {x2 : Int32} {x3 : Int32} {S : Nat → Int32} (hq : ∀ (h : tw_H) (S : Nat → Int32) (A : Nat → Nat → Int32), tw_M n m h S A → q h = true → post (S 0, S 1, S 2, S 3, A 1, A 2, A 3, A 4, A 5, A 6, A 7, A 8, A 9, A 10, A 11, A 12, A 13, A 14, A 15, A 16, A 17, A 18, A 19, A 20, A 21, A 22, A 23, A 24, A 25)) (hJ18 : ∀ (x1 x2 : Int32) (h : tw_H) (A1 : Nat → Nat → Int32), tw_M n m h S A1 → j18b x1 x2 h = true → J18 x1 x2 (A1 1) (A1 2) (A1 3) (A1 4) (A1 5) (A1 6) (A1 7) (A1 8) (A1 9) (A1 10) (A1 11) (A1 12) (A1 13) (A1 14) (A1 15) (A1 16) (A1 17) (A1 18) (A1 19) (A1 20) (A1 21) (A1 22) (A1 23) (A1 24) (A1 25)) : ∀ (kk : Nat) (x1 x4 x5 : Int32) (h : tw_H) (A : Nat → Nat → Int32), tw_M n m h S A → tb_layRow_63 q j18b x2 x3 kk x1 x4 x5 h = true → wX_layRow_63 post J18 x2 x3 (S 0) (S 1) (S 2) (S 3) kk x1 x4 x5 (A 1) (A 2) (A 3) (A 4) (A 5) (A 6) (A 7) (A 8) (A 9) (A 10) (A 11) (A 12) (A 13) (A 14) (A 15) (A 16) (A 17) (A 18) (A 19) (A 20) (A 21) (A 22) (A 23) (A 24) (A 25) := by
  intro kk
  induction kk with
  | zero => intro x1 x4 x5 h A hM hb; exact (Bool.false_ne_true hb).elim
  | succ kk ih =>
    intro x1 x4 x5 h A hM hb
    unfold tb_layRow_63 at hb
    unfold wX_layRow_63
    refine And.intro (fun hc1 => ?_) (fun hc1 => ?_)
    · replace hb := tw_bt hc1 hb
      exact ts_layRow_121 hq hJ18 (S := S) (A := A) hM hb
    · replace hb := tw_bf hc1 hb
      refine And.intro (fun hc2 => ?_) (fun hc2 => ?_)
      · replace hb := tw_bt hc2 hb
        exact ts_layRow_121 hq hJ18 (S := S) (A := A) hM hb
      · replace hb := tw_bf hc2 hb
        have hi3 := (tw_in_ok hb).1
        replace hb := (tw_in_ok hb).2
        refine And.intro hi3 ?_
        replace hb := tw_rd_ok (f := (A 8)) hM hb rfl rfl rfl
        refine And.intro (fun hc5 => ?_) (fun hc5 => ?_)
        · replace hb := tw_bt hc5 hb
          have hi6 := (tw_in_ok hb).1
          replace hb := (tw_in_ok hb).2
          refine And.intro hi6 ?_
          intro x4_33 e_x4_33
          replace hb := tw_rd_ok (f := (A 3)) hM hb rfl rfl e_x4_33
          intro x5_34 e_x5_34
          replace hb := tw_f_ok hb e_x5_34
          exact ih _ _ _ _ A hM hb
        · replace hb := tw_bf hc5 hb
          have hi7 := (tw_in_ok hb).1
          replace hb := (tw_in_ok hb).2
          refine And.intro hi7 ?_
          intro a9_36 e_a9_36
          obtain ⟨h8, hM, hb⟩ := tw_wr_ok (g := (A 9)) hM hb rfl rfl e_a9_36
          have hi9 := (tw_in_ok hb).1
          replace hb := (tw_in_ok hb).2
          refine And.intro hi9 ?_
          intro a12_38 e_a12_38
          obtain ⟨h10, hM, hb⟩ := tw_wr_ok (g := (A 12)) hM hb rfl rfl e_a12_38
          intro x1_39 e_x1_39
          replace hb := tw_f_ok hb e_x1_39
          refine And.intro hi7 ?_
          intro x4_41 e_x4_41
          replace hb := tw_rd_ok (f := (A 3)) hM hb rfl rfl e_x4_41
          intro x5_42 e_x5_42
          replace hb := tw_f_ok hb e_x5_42
          exact ih _ _ _ _ (tw_st (tw_st A 9 a9_36) 12 a12_38) hM hb
def tb_layRow_18 (q : tw_H → Bool) : Nat → Int32 → Int32 → tw_H → Bool
  | 0 => fun _ _ _ => false
  | kk + 1 => fun x1 x2 h => (if (24 : Int32) ≤ x2 then q h else (if x1 ≤ (0 : Int32) then q h else tw_f (x1 + (-(1 : Int32))) (fun x1_7 => (tw_in x1_7 25 && tw_rd h 12 (x1_7).toNatClampNeg (fun x3_9 => (tw_in x3_9 24 && tw_wr h 10 (x3_9).toNatClampNeg x2 (fun h5 => (tw_in x2 32 && tw_wr h5 11 (x2).toNatClampNeg x3_9 (fun h7 => tw_rd h7 2 (x3_9).toNatClampNeg (fun x4_15 => tb_layRow_63 q (tb_layRow_18 q kk) x2 x3_9 650 x1_7 x4_15 (0 : Int32) h7))))))))))
theorem ts_layRow_18 {n m : Int32} {post : St2 → Prop} {q : tw_H → Bool} (hq : ∀ (h : tw_H) (S : Nat → Int32) (A : Nat → Nat → Int32), tw_M n m h S A → q h = true → post (S 0, S 1, S 2, S 3, A 1, A 2, A 3, A 4, A 5, A 6, A 7, A 8, A 9, A 10, A 11, A 12, A 13, A 14, A 15, A 16, A 17, A 18, A 19, A 20, A 21, A 22, A 23, A 24, A 25)) : ∀ (kk : Nat) (x1 x2 : Int32) (h : tw_H) (S : Nat → Int32) (A : Nat → Nat → Int32), tw_M n m h S A → tb_layRow_18 q kk x1 x2 h = true → wX_layRow_18 post (S 0) (S 1) (S 2) (S 3) kk x1 x2 (A 1) (A 2) (A 3) (A 4) (A 5) (A 6) (A 7) (A 8) (A 9) (A 10) (A 11) (A 12) (A 13) (A 14) (A 15) (A 16) (A 17) (A 18) (A 19) (A 20) (A 21) (A 22) (A 23) (A 24) (A 25) := by
  intro kk
  induction kk with
  | zero => intro x1 x2 h S A hM hb; exact (Bool.false_ne_true hb).elim
  | succ kk ih =>
    intro x1 x2 h S A hM hb
    unfold tb_layRow_18 at hb
    unfold wX_layRow_18
    refine And.intro (fun hc1 => ?_) (fun hc1 => ?_)
    · replace hb := tw_bt hc1 hb
      exact hq _ S A hM hb
    · replace hb := tw_bf hc1 hb
      refine And.intro (fun hc2 => ?_) (fun hc2 => ?_)
      · replace hb := tw_bt hc2 hb
        exact hq _ S A hM hb
      · replace hb := tw_bf hc2 hb
        intro x1_7 e_x1_7
        replace hb := tw_f_ok hb e_x1_7
        have hi3 := (tw_in_ok hb).1
        replace hb := (tw_in_ok hb).2
        refine And.intro hi3 ?_
        intro x3_9 e_x3_9
        replace hb := tw_rd_ok (f := (A 12)) hM hb rfl rfl e_x3_9
        have hi4 := (tw_in_ok hb).1
        replace hb := (tw_in_ok hb).2
        refine And.intro hi4 ?_
        intro a10_11 e_a10_11
        obtain ⟨h5, hM, hb⟩ := tw_wr_ok (g := (A 10)) hM hb rfl rfl e_a10_11
        have hi6 := (tw_in_ok hb).1
        replace hb := (tw_in_ok hb).2
        refine And.intro hi6 ?_
        intro a11_13 e_a11_13
        obtain ⟨h7, hM, hb⟩ := tw_wr_ok (g := (A 11)) hM hb rfl rfl e_a11_13
        refine And.intro hi4 ?_
        intro x4_15 e_x4_15
        replace hb := tw_rd_ok (f := (A 2)) hM hb rfl rfl e_x4_15
        refine Exists.intro 650 ?_
        exact ts_layRow_63 (S := S) hq (fun y0 y1 h A1 hM hb => ih y0 y1 h S A1 hM hb) _ _ _ _ _ (tw_st (tw_st A 10 a10_11) 11 a11_13) hM hb
def tb_layRow (q : tw_H → Bool) (h : tw_H) : Bool := tw_wr h 12 0 (0 : Int32) (fun h1 => tw_wr h1 9 0 (0 : Int32) (fun h2 => tb_layRow_18 q 650 (1 : Int32) (0 : Int32) h2))
theorem ts_layRow {n m : Int32} {post : St2 → Prop} {q : tw_H → Bool} {h : tw_H} {S : Nat → Int32} {A : Nat → Nat → Int32} (hq : ∀ (h : tw_H) (S : Nat → Int32) (A : Nat → Nat → Int32), tw_M n m h S A → q h = true → post (S 0, S 1, S 2, S 3, A 1, A 2, A 3, A 4, A 5, A 6, A 7, A 8, A 9, A 10, A 11, A 12, A 13, A 14, A 15, A 16, A 17, A 18, A 19, A 20, A 21, A 22, A 23, A 24, A 25)) (hM : tw_M n m h S A) (hb : tb_layRow q h = true) : wpX_layRow post (S 0, S 1, S 2, S 3, A 1, A 2, A 3, A 4, A 5, A 6, A 7, A 8, A 9, A 10, A 11, A 12, A 13, A 14, A 15, A 16, A 17, A 18, A 19, A 20, A 21, A 22, A 23, A 24, A 25) := by
  unfold tb_layRow at hb
  unfold wpX_layRow
  intro a12_2 e_a12_2
  obtain ⟨h1, hM, hb⟩ := tw_wr_ok (g := (A 12)) hM hb rfl rfl e_a12_2
  intro a9_4 e_a9_4
  obtain ⟨h2, hM, hb⟩ := tw_wr_ok (g := (A 9)) hM hb rfl rfl e_a9_4
  refine Exists.intro 650 ?_
  exact ts_layRow_18 hq _ _ _ _ S (tw_st (tw_st A 12 a12_2) 9 a9_4) hM hb
def tb_join (q : tw_H → Bool) (p0 : Int32) (h : tw_H) : Bool := (tw_in ((2 : Int32) * p0) 64 && (tw_in (((2 : Int32) * p0) + (1 : Int32)) 64 && (tw_in p0 64 && tw_rL h 13 (((2 : Int32) * p0)).toNatClampNeg (fun w4 => tw_rL h 13 ((((2 : Int32) * p0) + (1 : Int32))).toNatClampNeg (fun w5 => tw_wL h 13 (p0).toNatClampNeg (tw_add w4 w5) (fun h6 => q h6))))))
theorem ts_join {n m : Int32} {post : St2 → Prop} {q : tw_H → Bool} {p0 : Int32} {h : tw_H} {S : Nat → Int32} {A : Nat → Nat → Int32} (hq : ∀ (h : tw_H) (S : Nat → Int32) (A : Nat → Nat → Int32), tw_M n m h S A → q h = true → post (S 0, S 1, S 2, S 3, A 1, A 2, A 3, A 4, A 5, A 6, A 7, A 8, A 9, A 10, A 11, A 12, A 13, A 14, A 15, A 16, A 17, A 18, A 19, A 20, A 21, A 22, A 23, A 24, A 25)) (hM : tw_M n m h S A) (hb : tb_join q p0 h = true) : wpX_join post (S 0, S 1, S 2, S 3, A 1, A 2, A 3, A 4, A 5, A 6, A 7, A 8, A 9, A 10, A 11, A 12, A 13, A 14, A 15, A 16, A 17, A 18, A 19, A 20, A 21, A 22, A 23, A 24, A 25) p0 := by
  unfold tb_join at hb
  unfold wpX_join
  have hi1 := (tw_in_ok hb).1
  replace hb := (tw_in_ok hb).2
  refine And.intro hi1 ?_
  have hi2 := (tw_in_ok hb).1
  replace hb := (tw_in_ok hb).2
  refine And.intro hi2 ?_
  have hi3 := (tw_in_ok hb).1
  replace hb := (tw_in_ok hb).2
  refine And.intro hi3 ?_
  obtain ⟨w4, ew4, hb⟩ := tw_rL_ok (f := (A 13)) hM hb rfl rfl
  obtain ⟨w5, ew5, hb⟩ := tw_rL_ok (f := (A 13)) hM hb rfl rfl
  intro a13_4 e_a13_4
  obtain ⟨h6, hM, hb⟩ := tw_wL_ok (g := (A 13)) hM hb rfl rfl e_a13_4 (tw_evA ew4 ew5)
  refine And.intro hi1 ?_
  refine And.intro hi2 ?_
  refine And.intro (fun hc => ?_) (fun hc => ?_)
  · refine And.intro hi2 ?_
    refine And.intro hi3 ?_
    intro a14_10 e_a14_10
    replace hM := tw_stU (i := 14) (f := a14_10) hM rfl
    exact hq _ S (tw_st (tw_st A 13 a13_4) 14 a14_10) hM hb
  · refine And.intro hi1 ?_
    refine And.intro hi3 ?_
    intro a14_13 e_a14_13
    replace hM := tw_stU (i := 14) (f := a14_13) hM rfl
    exact hq _ S (tw_st (tw_st A 13 a13_4) 14 a14_13) hM hb
def tb_fillRow_113 (q : tw_H → Bool) : Nat → Int32 → tw_H → Bool
  | 0 => fun _ _ => false
  | kk + 1 => fun x1 h => (if (64 : Int32) ≤ x1 then q h else (tw_in x1 64 && tw_wL h 15 (x1).toNatClampNeg ((0 : Int32), none) (fun h3 => tw_f (x1 + (1 : Int32)) (fun x1_6 => tb_fillRow_113 q kk x1_6 h3))))
theorem ts_fillRow_113 {n m : Int32} {post : St2 → Prop} {q : tw_H → Bool} (hq : ∀ (h : tw_H) (S : Nat → Int32) (A : Nat → Nat → Int32), tw_M n m h S A → q h = true → post (S 0, S 1, S 2, S 3, A 1, A 2, A 3, A 4, A 5, A 6, A 7, A 8, A 9, A 10, A 11, A 12, A 13, A 14, A 15, A 16, A 17, A 18, A 19, A 20, A 21, A 22, A 23, A 24, A 25)) : ∀ (kk : Nat) (x1 : Int32) (h : tw_H) (S : Nat → Int32) (A : Nat → Nat → Int32), tw_M n m h S A → tb_fillRow_113 q kk x1 h = true → wX_fillRow_113 post (S 0) (S 1) (S 2) (S 3) kk x1 (A 1) (A 2) (A 3) (A 4) (A 5) (A 6) (A 7) (A 8) (A 9) (A 10) (A 11) (A 12) (A 13) (A 14) (A 15) (A 16) (A 17) (A 18) (A 19) (A 20) (A 21) (A 22) (A 23) (A 24) (A 25) := by
  intro kk
  induction kk with
  | zero => intro x1 h S A hM hb; exact (Bool.false_ne_true hb).elim
  | succ kk ih =>
    intro x1 h S A hM hb
    unfold tb_fillRow_113 at hb
    unfold wX_fillRow_113
    refine And.intro (fun hc1 => ?_) (fun hc1 => ?_)
    · replace hb := tw_bt hc1 hb
      exact hq _ S A hM hb
    · replace hb := tw_bf hc1 hb
      have hi2 := (tw_in_ok hb).1
      replace hb := (tw_in_ok hb).2
      refine And.intro hi2 ?_
      intro a15_5 e_a15_5
      obtain ⟨h3, hM, hb⟩ := tw_wL_ok (g := (A 15)) hM hb rfl rfl e_a15_5 (tw_evC _ _ _)
      intro x1_6 e_x1_6
      replace hb := tw_f_ok hb e_x1_6
      exact ih _ _ S (tw_st A 15 a15_5) hM hb
def tb_fillRow_88 (q : tw_H → Bool) : Nat → Int32 → tw_H → Bool
  | 0 => fun _ _ => false
  | kk + 1 => fun x1 h => (if x1 ≤ (0 : Int32) then tb_fillRow_113 q 650 (32 : Int32) h else (tw_in x1 64 && tw_wL h 15 (x1).toNatClampNeg ((0 : Int32), none) (fun h3 => tb_join (fun h4 => tw_f (x1 + (-(1 : Int32))) (fun x1_89 => tb_fillRow_88 q kk x1_89 h4)) x1 h3)))
theorem ts_fillRow_88 {n m : Int32} {post : St2 → Prop} {q : tw_H → Bool} (hq : ∀ (h : tw_H) (S : Nat → Int32) (A : Nat → Nat → Int32), tw_M n m h S A → q h = true → post (S 0, S 1, S 2, S 3, A 1, A 2, A 3, A 4, A 5, A 6, A 7, A 8, A 9, A 10, A 11, A 12, A 13, A 14, A 15, A 16, A 17, A 18, A 19, A 20, A 21, A 22, A 23, A 24, A 25)) : ∀ (kk : Nat) (x1 : Int32) (h : tw_H) (S : Nat → Int32) (A : Nat → Nat → Int32), tw_M n m h S A → tb_fillRow_88 q kk x1 h = true → wX_fillRow_88 post kk x1 (S 0) (S 1) (S 2) (S 3) (A 1) (A 2) (A 3) (A 4) (A 5) (A 6) (A 7) (A 8) (A 9) (A 10) (A 11) (A 12) (A 13) (A 14) (A 15) (A 16) (A 17) (A 18) (A 19) (A 20) (A 21) (A 22) (A 23) (A 24) (A 25) := by
  intro kk
  induction kk with
  | zero => intro x1 h S A hM hb; exact (Bool.false_ne_true hb).elim
  | succ kk ih =>
    intro x1 h S A hM hb
    unfold tb_fillRow_88 at hb
    unfold wX_fillRow_88
    refine And.intro (fun hc1 => ?_) (fun hc1 => ?_)
    · replace hb := tw_bt hc1 hb
      refine Exists.intro 650 ?_
      exact ts_fillRow_113 hq _ _ _ S A hM hb
    · replace hb := tw_bf hc1 hb
      have hi2 := (tw_in_ok hb).1
      replace hb := (tw_in_ok hb).2
      refine And.intro hi2 ?_
      intro a15_8 e_a15_8
      obtain ⟨h3, hM, hb⟩ := tw_wL_ok (g := (A 15)) hM hb rfl rfl e_a15_8 (tw_evC _ _ _)
      refine ts_join ?_ (S := S) (A := (tw_st A 15 a15_8)) hM hb
      intro h4 S5 A6 hM hb
      intro x1_89 e_x1_89
      replace hb := tw_f_ok hb e_x1_89
      exact ih _ _ S5 A6 hM hb
def tb_fillRow_49 (q : tw_H → Bool) (j2b : Int32 → tw_H → Bool) (x1 : Int32) (x2 : Int32) (z0v : tw_V) (z1 : Int32) (h : tw_H) : Bool := (tw_in z1 64 && tw_wL h 13 (z1).toNatClampNeg z0v (fun h2 => (if x2 = (0 : Int32) then (tw_in ((32 : Int32) + x1) 64 && tw_f (x1 + (1 : Int32)) (fun x1_97 => j2b x1_97 h2)) else (tw_in x1 32 && tw_rd h2 11 (x1).toNatClampNeg (fun v6 => (tw_in v6 24 && (tw_in ((32 : Int32) + x1) 64 && tw_f (x1 + (1 : Int32)) (fun x1_102 => j2b x1_102 h2))))))))
theorem ts_fillRow_49 {n m : Int32} {post : St2 → Prop} {q : tw_H → Bool} {J2 : Int32 → (Nat → Int32) → (Nat → Int32) → (Nat → Int32) → (Nat → Int32) → (Nat → Int32) → (Nat → Int32) → (Nat → Int32) → (Nat → Int32) → (Nat → Int32) → (Nat → Int32) → (Nat → Int32) → (Nat → Int32) → (Nat → Int32) → (Nat → Int32) → (Nat → Int32) → (Nat → Int32) → (Nat → Int32) → (Nat → Int32) → (Nat → Int32) → (Nat → Int32) → (Nat → Int32) → (Nat → Int32) → (Nat → Int32) → (Nat → Int32) → (Nat → Int32) → Prop} {j2b : Int32 → tw_H → Bool} {x1 : Int32} {x2 : Int32} {z0 : Int32} {z0v : tw_V} {z1 : Int32} {h : tw_H} {S : Nat → Int32} {A : Nat → Nat → Int32} (hq : ∀ (h : tw_H) (S : Nat → Int32) (A : Nat → Nat → Int32), tw_M n m h S A → q h = true → post (S 0, S 1, S 2, S 3, A 1, A 2, A 3, A 4, A 5, A 6, A 7, A 8, A 9, A 10, A 11, A 12, A 13, A 14, A 15, A 16, A 17, A 18, A 19, A 20, A 21, A 22, A 23, A 24, A 25)) (hJ2 : ∀ (x1 : Int32) (h : tw_H) (A1 : Nat → Nat → Int32), tw_M n m h S A1 → j2b x1 h = true → J2 x1 (A1 1) (A1 2) (A1 3) (A1 4) (A1 5) (A1 6) (A1 7) (A1 8) (A1 9) (A1 10) (A1 11) (A1 12) (A1 13) (A1 14) (A1 15) (A1 16) (A1 17) (A1 18) (A1 19) (A1 20) (A1 21) (A1 22) (A1 23) (A1 24) (A1 25)) (hx_z0 : z0 = tw_ev n m z0v) (hM : tw_M n m h S A) (hb : tb_fillRow_49 q j2b x1 x2 z0v z1 h = true) : wX_fillRow_49 post J2 x1 x2 z0 z1 (S 0) (S 1) (S 2) (S 3) (A 1) (A 2) (A 3) (A 4) (A 5) (A 6) (A 7) (A 8) (A 9) (A 10) (A 11) (A 12) (A 13) (A 14) (A 15) (A 16) (A 17) (A 18) (A 19) (A 20) (A 21) (A 22) (A 23) (A 24) (A 25) := by
  unfold tb_fillRow_49 at hb
  unfold wX_fillRow_49
  have hi1 := (tw_in_ok hb).1
  replace hb := (tw_in_ok hb).2
  refine And.intro hi1 ?_
  intro a13_93 e_a13_93
  obtain ⟨h2, hM, hb⟩ := tw_wL_ok (g := (A 13)) hM hb rfl rfl e_a13_93 hx_z0
  refine And.intro (fun hc3 => ?_) (fun hc3 => ?_)
  · replace hb := tw_bt hc3 hb
    have hi4 := (tw_in_ok hb).1
    replace hb := (tw_in_ok hb).2
    refine And.intro hi4 ?_
    intro a14_96 e_a14_96
    replace hM := tw_stU (i := 14) (f := a14_96) hM rfl
    intro x1_97 e_x1_97
    replace hb := tw_f_ok hb e_x1_97
    exact hJ2 _ _ (tw_st (tw_st A 13 a13_93) 14 a14_96) hM hb
  · replace hb := tw_bf hc3 hb
    have hi5 := (tw_in_ok hb).1
    replace hb := (tw_in_ok hb).2
    refine And.intro hi5 ?_
    replace hb := tw_rd_ok (f := (A 11)) hM hb rfl rfl rfl
    have hi7 := (tw_in_ok hb).1
    replace hb := (tw_in_ok hb).2
    refine And.intro hi7 ?_
    have hi8 := (tw_in_ok hb).1
    replace hb := (tw_in_ok hb).2
    refine And.intro hi8 ?_
    intro a14_101 e_a14_101
    replace hM := tw_stU (i := 14) (f := a14_101) hM rfl
    intro x1_102 e_x1_102
    replace hb := tw_f_ok hb e_x1_102
    exact hJ2 _ _ (tw_st (tw_st A 13 a13_93) 14 a14_101) hM hb
def tb_fillRow_21 (q : tw_H → Bool) (j2b : Int32 → tw_H → Bool) (x1 : Int32) (z0 : Int32) (h : tw_H) : Bool := (if z0 = (0 : Int32) then tw_f ((32 : Int32) + x1) (fun y2 => tb_fillRow_49 q j2b x1 z0 ((0 : Int32), none) y2 h) else (tw_in x1 32 && tw_rd h 11 (x1).toNatClampNeg (fun v4 => (tw_in v4 24 && tw_rL h 4 (v4).toNatClampNeg (fun w6 => tw_f ((32 : Int32) + x1) (fun y7 => tb_fillRow_49 q j2b x1 z0 w6 y7 h))))))
theorem ts_fillRow_21 {n m : Int32} {post : St2 → Prop} {q : tw_H → Bool} {J2 : Int32 → (Nat → Int32) → (Nat → Int32) → (Nat → Int32) → (Nat → Int32) → (Nat → Int32) → (Nat → Int32) → (Nat → Int32) → (Nat → Int32) → (Nat → Int32) → (Nat → Int32) → (Nat → Int32) → (Nat → Int32) → (Nat → Int32) → (Nat → Int32) → (Nat → Int32) → (Nat → Int32) → (Nat → Int32) → (Nat → Int32) → (Nat → Int32) → (Nat → Int32) → (Nat → Int32) → (Nat → Int32) → (Nat → Int32) → (Nat → Int32) → (Nat → Int32) → Prop} {j2b : Int32 → tw_H → Bool} {x1 : Int32} {z0 : Int32} {h : tw_H} {S : Nat → Int32} {A : Nat → Nat → Int32} (hq : ∀ (h : tw_H) (S : Nat → Int32) (A : Nat → Nat → Int32), tw_M n m h S A → q h = true → post (S 0, S 1, S 2, S 3, A 1, A 2, A 3, A 4, A 5, A 6, A 7, A 8, A 9, A 10, A 11, A 12, A 13, A 14, A 15, A 16, A 17, A 18, A 19, A 20, A 21, A 22, A 23, A 24, A 25)) (hJ2 : ∀ (x1 : Int32) (h : tw_H) (A1 : Nat → Nat → Int32), tw_M n m h S A1 → j2b x1 h = true → J2 x1 (A1 1) (A1 2) (A1 3) (A1 4) (A1 5) (A1 6) (A1 7) (A1 8) (A1 9) (A1 10) (A1 11) (A1 12) (A1 13) (A1 14) (A1 15) (A1 16) (A1 17) (A1 18) (A1 19) (A1 20) (A1 21) (A1 22) (A1 23) (A1 24) (A1 25)) (hM : tw_M n m h S A) (hb : tb_fillRow_21 q j2b x1 z0 h = true) : wX_fillRow_21 post J2 x1 z0 (S 0) (S 1) (S 2) (S 3) (A 1) (A 2) (A 3) (A 4) (A 5) (A 6) (A 7) (A 8) (A 9) (A 10) (A 11) (A 12) (A 13) (A 14) (A 15) (A 16) (A 17) (A 18) (A 19) (A 20) (A 21) (A 22) (A 23) (A 24) (A 25) := by
  unfold tb_fillRow_21 at hb
  unfold wX_fillRow_21
  refine And.intro (fun hc1 => ?_) (fun hc1 => ?_)
  · replace hb := tw_bt hc1 hb
    replace hb := tw_f_ok hb rfl
    exact ts_fillRow_49 hq hJ2 (tw_evC _ _ _) (S := S) (A := A) hM hb
  · replace hb := tw_bf hc1 hb
    have hi3 := (tw_in_ok hb).1
    replace hb := (tw_in_ok hb).2
    refine And.intro hi3 ?_
    replace hb := tw_rd_ok (f := (A 11)) hM hb rfl rfl rfl
    have hi5 := (tw_in_ok hb).1
    replace hb := (tw_in_ok hb).2
    refine And.intro hi5 ?_
    obtain ⟨w6, ew6, hb⟩ := tw_rL_ok (f := (A 4)) hM hb rfl rfl
    replace hb := tw_f_ok hb rfl
    exact ts_fillRow_49 hq hJ2 ew6 (S := S) (A := A) hM hb
def tb_fillRow_2 (q : tw_H → Bool) : Nat → Int32 → tw_H → Bool
  | 0 => fun _ _ => false
  | kk + 1 => fun x1 h => (if (32 : Int32) ≤ x1 then tb_fillRow_88 q 650 (31 : Int32) h else tw_rd h 0 0 (fun v2 => (if v2 ≤ x1 then tb_fillRow_21 q (tb_fillRow_2 q kk) x1 (0 : Int32) h else tb_fillRow_21 q (tb_fillRow_2 q kk) x1 (1 : Int32) h)))
theorem ts_fillRow_2 {n m : Int32} {post : St2 → Prop} {q : tw_H → Bool} (hq : ∀ (h : tw_H) (S : Nat → Int32) (A : Nat → Nat → Int32), tw_M n m h S A → q h = true → post (S 0, S 1, S 2, S 3, A 1, A 2, A 3, A 4, A 5, A 6, A 7, A 8, A 9, A 10, A 11, A 12, A 13, A 14, A 15, A 16, A 17, A 18, A 19, A 20, A 21, A 22, A 23, A 24, A 25)) : ∀ (kk : Nat) (x1 : Int32) (h : tw_H) (S : Nat → Int32) (A : Nat → Nat → Int32), tw_M n m h S A → tb_fillRow_2 q kk x1 h = true → wX_fillRow_2 post (S 0) (S 1) (S 2) (S 3) kk x1 (A 1) (A 2) (A 3) (A 4) (A 5) (A 6) (A 7) (A 8) (A 9) (A 10) (A 11) (A 12) (A 13) (A 14) (A 15) (A 16) (A 17) (A 18) (A 19) (A 20) (A 21) (A 22) (A 23) (A 24) (A 25) := by
  intro kk
  induction kk with
  | zero => intro x1 h S A hM hb; exact (Bool.false_ne_true hb).elim
  | succ kk ih =>
    intro x1 h S A hM hb
    unfold tb_fillRow_2 at hb
    unfold wX_fillRow_2
    refine And.intro (fun hc1 => ?_) (fun hc1 => ?_)
    · replace hb := tw_bt hc1 hb
      refine Exists.intro 650 ?_
      exact ts_fillRow_88 hq _ _ _ S A hM hb
    · replace hb := tw_bf hc1 hb
      replace hb := tw_rS_ok hM hb (by decide) rfl
      refine And.intro (fun hc3 => ?_) (fun hc3 => ?_)
      · replace hb := tw_bt hc3 hb
        exact ts_fillRow_21 hq (fun y0 h A1 hM hb => ih y0 h S A1 hM hb) (S := S) (A := A) hM hb
      · replace hb := tw_bf hc3 hb
        exact ts_fillRow_21 hq (fun y0 h A1 hM hb => ih y0 h S A1 hM hb) (S := S) (A := A) hM hb
def tb_fillRow (q : tw_H → Bool) (h : tw_H) : Bool := tb_fillRow_2 q 650 (0 : Int32) h
theorem ts_fillRow {n m : Int32} {post : St2 → Prop} {q : tw_H → Bool} {h : tw_H} {S : Nat → Int32} {A : Nat → Nat → Int32} (hq : ∀ (h : tw_H) (S : Nat → Int32) (A : Nat → Nat → Int32), tw_M n m h S A → q h = true → post (S 0, S 1, S 2, S 3, A 1, A 2, A 3, A 4, A 5, A 6, A 7, A 8, A 9, A 10, A 11, A 12, A 13, A 14, A 15, A 16, A 17, A 18, A 19, A 20, A 21, A 22, A 23, A 24, A 25)) (hM : tw_M n m h S A) (hb : tb_fillRow q h = true) : wpX_fillRow post (S 0, S 1, S 2, S 3, A 1, A 2, A 3, A 4, A 5, A 6, A 7, A 8, A 9, A 10, A 11, A 12, A 13, A 14, A 15, A 16, A 17, A 18, A 19, A 20, A 21, A 22, A 23, A 24, A 25) := by
  unfold tb_fillRow at hb
  unfold wpX_fillRow
  refine Exists.intro 650 ?_
  exact ts_fillRow_2 hq _ _ _ S A hM hb
end
section
def tb_clearNear_31 (q : tw_H → Bool) : Nat → Int32 → tw_H → Bool
  | 0 => fun _ _ => false
  | kk + 1 => fun x1 h => tw_rd h 0 0 (fun v1 => (if v1 ≤ x1 then q h else (tw_in x1 24 && tw_wr h 16 (x1).toNatClampNeg (0 : Int32) (fun h4 => tw_f (x1 + (1 : Int32)) (fun x1_5 => tb_clearNear_31 q kk x1_5 h4)))))
theorem ts_clearNear_31 {n m : Int32} {post : St2 → Prop} {q : tw_H → Bool} (hq : ∀ (h : tw_H) (S : Nat → Int32) (A : Nat → Nat → Int32), tw_M n m h S A → q h = true → post (S 0, S 1, S 2, S 3, A 1, A 2, A 3, A 4, A 5, A 6, A 7, A 8, A 9, A 10, A 11, A 12, A 13, A 14, A 15, A 16, A 17, A 18, A 19, A 20, A 21, A 22, A 23, A 24, A 25)) : ∀ (kk : Nat) (x1 : Int32) (h : tw_H) (S : Nat → Int32) (A : Nat → Nat → Int32), tw_M n m h S A → tb_clearNear_31 q kk x1 h = true → wX_clearNear_31 post (S 0) (S 1) (S 2) (S 3) kk x1 (A 1) (A 2) (A 3) (A 4) (A 5) (A 6) (A 7) (A 8) (A 9) (A 10) (A 11) (A 12) (A 13) (A 14) (A 15) (A 16) (A 17) (A 18) (A 19) (A 20) (A 21) (A 22) (A 23) (A 24) (A 25) := by
  intro kk
  induction kk with
  | zero => intro x1 h S A hM hb; exact (Bool.false_ne_true hb).elim
  | succ kk ih =>
    intro x1 h S A hM hb
    unfold tb_clearNear_31 at hb
    unfold wX_clearNear_31
    replace hb := tw_rS_ok hM hb (by decide) rfl
    refine And.intro (fun hc2 => ?_) (fun hc2 => ?_)
    · replace hb := tw_bt hc2 hb
      exact hq _ S A hM hb
    · replace hb := tw_bf hc2 hb
      have hi3 := (tw_in_ok hb).1
      replace hb := (tw_in_ok hb).2
      refine And.intro hi3 ?_
      intro a16_4 e_a16_4
      obtain ⟨h4, hM, hb⟩ := tw_wr_ok (g := (A 16)) hM hb rfl rfl e_a16_4
      intro x1_5 e_x1_5
      replace hb := tw_f_ok hb e_x1_5
      exact ih _ _ S (tw_st A 16 a16_4) hM hb
def tb_clearNear_2 (q : tw_H → Bool) : Nat → Int32 → tw_H → Bool
  | 0 => fun _ _ => false
  | kk + 1 => fun x1 h => (if (600 : Int32) ≤ x1 then tb_clearNear_31 q 650 (0 : Int32) h else (tw_in x1 600 && tw_f (x1 + (1 : Int32)) (fun x1_10 => tb_clearNear_2 q kk x1_10 h)))
theorem ts_clearNear_2 {n m : Int32} {post : St2 → Prop} {q : tw_H → Bool} (hq : ∀ (h : tw_H) (S : Nat → Int32) (A : Nat → Nat → Int32), tw_M n m h S A → q h = true → post (S 0, S 1, S 2, S 3, A 1, A 2, A 3, A 4, A 5, A 6, A 7, A 8, A 9, A 10, A 11, A 12, A 13, A 14, A 15, A 16, A 17, A 18, A 19, A 20, A 21, A 22, A 23, A 24, A 25)) : ∀ (kk : Nat) (x1 : Int32) (h : tw_H) (S : Nat → Int32) (A : Nat → Nat → Int32), tw_M n m h S A → tb_clearNear_2 q kk x1 h = true → wX_clearNear_2 post (S 0) (S 1) (S 2) (S 3) kk x1 (A 1) (A 2) (A 3) (A 4) (A 5) (A 6) (A 7) (A 8) (A 9) (A 10) (A 11) (A 12) (A 13) (A 14) (A 15) (A 16) (A 17) (A 18) (A 19) (A 20) (A 21) (A 22) (A 23) (A 24) (A 25) := by
  intro kk
  induction kk with
  | zero => intro x1 h S A hM hb; exact (Bool.false_ne_true hb).elim
  | succ kk ih =>
    intro x1 h S A hM hb
    unfold tb_clearNear_2 at hb
    unfold wX_clearNear_2
    refine And.intro (fun hc1 => ?_) (fun hc1 => ?_)
    · replace hb := tw_bt hc1 hb
      refine Exists.intro 650 ?_
      exact ts_clearNear_31 hq _ _ _ S A hM hb
    · replace hb := tw_bf hc1 hb
      have hi2 := (tw_in_ok hb).1
      replace hb := (tw_in_ok hb).2
      refine And.intro hi2 ?_
      intro a18_7 e_a18_7
      replace hM := tw_stU (i := 18) (f := a18_7) hM rfl
      refine And.intro hi2 ?_
      intro a19_9 e_a19_9
      replace hM := tw_stU (i := 19) (f := a19_9) hM rfl
      intro x1_10 e_x1_10
      replace hb := tw_f_ok hb e_x1_10
      exact ih _ _ S (tw_st (tw_st A 18 a18_7) 19 a19_9) hM hb
def tb_clearNear (q : tw_H → Bool) (h : tw_H) : Bool := tb_clearNear_2 q 650 (0 : Int32) h
theorem ts_clearNear {n m : Int32} {post : St2 → Prop} {q : tw_H → Bool} {h : tw_H} {S : Nat → Int32} {A : Nat → Nat → Int32} (hq : ∀ (h : tw_H) (S : Nat → Int32) (A : Nat → Nat → Int32), tw_M n m h S A → q h = true → post (S 0, S 1, S 2, S 3, A 1, A 2, A 3, A 4, A 5, A 6, A 7, A 8, A 9, A 10, A 11, A 12, A 13, A 14, A 15, A 16, A 17, A 18, A 19, A 20, A 21, A 22, A 23, A 24, A 25)) (hM : tw_M n m h S A) (hb : tb_clearNear q h = true) : wpX_clearNear post (S 0, S 1, S 2, S 3, A 1, A 2, A 3, A 4, A 5, A 6, A 7, A 8, A 9, A 10, A 11, A 12, A 13, A 14, A 15, A 16, A 17, A 18, A 19, A 20, A 21, A 22, A 23, A 24, A 25) := by
  unfold tb_clearNear at hb
  unfold wpX_clearNear
  refine Exists.intro 650 ?_
  exact ts_clearNear_2 hq _ _ _ S A hM hb
def tb_offer_35 (q : Int32 → tw_H → Bool) (x1 : Int32) (x2 : Int32) (x3 : Int32) (h : tw_H) : Bool := (tw_in x3 24 && tw_wr h 20 (x3).toNatClampNeg x1 (fun h2 => tw_wr h2 21 (x3).toNatClampNeg x2 (fun h3 => (tw_in x2 24 && tw_rd h3 22 (x2).toNatClampNeg (fun v5 => tw_wr h3 22 (x3).toNatClampNeg (v5 + (1 : Int32)) (fun h6 => tw_f (x3 + (1 : Int32)) (fun y7 => q y7 h6)))))))
theorem ts_offer_35 {n m : Int32} {post : Int32 → St2 → Prop} {q : Int32 → tw_H → Bool} {x1 : Int32} {x2 : Int32} {x3 : Int32} {h : tw_H} {S : Nat → Int32} {A : Nat → Nat → Int32} (hq : ∀ (r : Int32) (h : tw_H) (S : Nat → Int32) (A : Nat → Nat → Int32), tw_M n m h S A → q r h = true → post r (S 0, S 1, S 2, S 3, A 1, A 2, A 3, A 4, A 5, A 6, A 7, A 8, A 9, A 10, A 11, A 12, A 13, A 14, A 15, A 16, A 17, A 18, A 19, A 20, A 21, A 22, A 23, A 24, A 25)) (hM : tw_M n m h S A) (hb : tb_offer_35 q x1 x2 x3 h = true) : wX_offer_35 post x1 x2 x3 (S 0) (S 1) (S 2) (S 3) (A 1) (A 2) (A 3) (A 4) (A 5) (A 6) (A 7) (A 8) (A 9) (A 10) (A 11) (A 12) (A 13) (A 14) (A 15) (A 16) (A 17) (A 18) (A 19) (A 20) (A 21) (A 22) (A 23) (A 24) (A 25) := by
  unfold tb_offer_35 at hb
  unfold wX_offer_35
  have hi1 := (tw_in_ok hb).1
  replace hb := (tw_in_ok hb).2
  refine And.intro hi1 ?_
  intro a20_6 e_a20_6
  obtain ⟨h2, hM, hb⟩ := tw_wr_ok (g := (A 20)) hM hb rfl rfl e_a20_6
  refine And.intro hi1 ?_
  intro a21_8 e_a21_8
  obtain ⟨h3, hM, hb⟩ := tw_wr_ok (g := (A 21)) hM hb rfl rfl e_a21_8
  have hi4 := (tw_in_ok hb).1
  replace hb := (tw_in_ok hb).2
  refine And.intro hi4 ?_
  refine And.intro hi1 ?_
  replace hb := tw_rd_ok (f := (A 22)) hM hb rfl rfl rfl
  intro a22_11 e_a22_11
  obtain ⟨h6, hM, hb⟩ := tw_wr_ok (g := (A 22)) hM hb rfl rfl e_a22_11
  replace hb := tw_f_ok hb rfl
  exact hq _ _ S (tw_st (tw_st (tw_st A 20 a20_6) 21 a21_8) 22 a22_11) hM hb
def tb_offer (q : Int32 → tw_H → Bool) (p0 : Int32) (p1 : Int32) (p2 : Int32) (h : tw_H) : Bool := (tw_in p0 24 && tw_rd h 16 (p0).toNatClampNeg (fun v2 => (if v2 = (0 : Int32) then (tw_in p1 24 && tw_rd h 21 (p1).toNatClampNeg (fun v5 => (if v5 < (0 : Int32) then tb_offer_35 q p0 p1 p2 h else (tw_in v5 24 && tw_rd h 20 (v5).toNatClampNeg (fun v8 => (if v8 = p0 then q p2 h else tb_offer_35 q p0 p1 p2 h)))))) else q p2 h)))
theorem ts_offer {n m : Int32} {post : Int32 → St2 → Prop} {q : Int32 → tw_H → Bool} {p0 : Int32} {p1 : Int32} {p2 : Int32} {h : tw_H} {S : Nat → Int32} {A : Nat → Nat → Int32} (hq : ∀ (r : Int32) (h : tw_H) (S : Nat → Int32) (A : Nat → Nat → Int32), tw_M n m h S A → q r h = true → post r (S 0, S 1, S 2, S 3, A 1, A 2, A 3, A 4, A 5, A 6, A 7, A 8, A 9, A 10, A 11, A 12, A 13, A 14, A 15, A 16, A 17, A 18, A 19, A 20, A 21, A 22, A 23, A 24, A 25)) (hM : tw_M n m h S A) (hb : tb_offer q p0 p1 p2 h = true) : wpX_offer post (S 0, S 1, S 2, S 3, A 1, A 2, A 3, A 4, A 5, A 6, A 7, A 8, A 9, A 10, A 11, A 12, A 13, A 14, A 15, A 16, A 17, A 18, A 19, A 20, A 21, A 22, A 23, A 24, A 25) p0 p1 p2 := by
  unfold tb_offer at hb
  unfold wpX_offer
  have hi1 := (tw_in_ok hb).1
  replace hb := (tw_in_ok hb).2
  refine And.intro hi1 ?_
  replace hb := tw_rd_ok (f := (A 16)) hM hb rfl rfl rfl
  refine And.intro (fun hc3 => ?_) (fun hc3 => ?_)
  · replace hb := tw_bt hc3 hb
    have hi4 := (tw_in_ok hb).1
    replace hb := (tw_in_ok hb).2
    refine And.intro hi4 ?_
    replace hb := tw_rd_ok (f := (A 21)) hM hb rfl rfl rfl
    refine And.intro (fun hc6 => ?_) (fun hc6 => ?_)
    · replace hb := tw_bt hc6 hb
      exact ts_offer_35 hq (S := S) (A := A) hM hb
    · replace hb := tw_bf hc6 hb
      refine And.intro hi4 ?_
      have hi7 := (tw_in_ok hb).1
      replace hb := (tw_in_ok hb).2
      refine And.intro hi7 ?_
      replace hb := tw_rd_ok (f := (A 20)) hM hb rfl rfl rfl
      refine And.intro (fun hc9 => ?_) (fun hc9 => ?_)
      · replace hb := tw_bt hc9 hb
        exact hq _ _ S A hM hb
      · replace hb := tw_bf hc9 hb
        exact ts_offer_35 hq (S := S) (A := A) hM hb
  · replace hb := tw_bf hc3 hb
    exact hq _ _ S A hM hb
def tb_listPiece_75 (q : Int32 → tw_H → Bool) (j25b : Int32 → Int32 → tw_H → Bool) (x3 : Int32) : Nat → Int32 → Int32 → Int32 → tw_H → Bool
  | 0 => fun _ _ _ _ => false
  | kk + 1 => fun x2 x5 x6 h => (if (24 : Int32) ≤ x6 then tw_f (x3 + (1 : Int32)) (fun x3_15 => j25b x2 x3_15 h) else (if x5 < (0 : Int32) then tw_f (x3 + (1 : Int32)) (fun x3_17 => j25b x2 x3_17 h) else tb_offer (fun r_18 h3 => (tw_in x5 24 && tw_rd h3 3 (x5).toNatClampNeg (fun x5_99 => tw_f (x6 + (1 : Int32)) (fun x6_100 => tb_listPiece_75 q j25b x3 kk r_18 x5_99 x6_100 h3)))) x5 x3 x2 h))
theorem ts_listPiece_75 {n m : Int32} {post : Int32 → St2 → Prop} {q : Int32 → tw_H → Bool} {J25 : Int32 → Int32 → Int32 → Int32 → Int32 → Int32 → (Nat → Int32) → (Nat → Int32) → (Nat → Int32) → (Nat → Int32) → (Nat → Int32) → (Nat → Int32) → (Nat → Int32) → (Nat → Int32) → (Nat → Int32) → (Nat → Int32) → (Nat → Int32) → (Nat → Int32) → (Nat → Int32) → (Nat → Int32) → (Nat → Int32) → (Nat → Int32) → (Nat → Int32) → (Nat → Int32) → (Nat → Int32) → (Nat → Int32) → (Nat → Int32) → (Nat → Int32) → (Nat → Int32) → (Nat → Int32) → (Nat → Int32) → Prop} {j25b : Int32 → Int32 → tw_H → Bool} {x3 : Int32} (hq : ∀ (r : Int32) (h : tw_H) (S : Nat → Int32) (A : Nat → Nat → Int32), tw_M n m h S A → q r h = true → post r (S 0, S 1, S 2, S 3, A 1, A 2, A 3, A 4, A 5, A 6, A 7, A 8, A 9, A 10, A 11, A 12, A 13, A 14, A 15, A 16, A 17, A 18, A 19, A 20, A 21, A 22, A 23, A 24, A 25)) (hJ25 : ∀ (x1 x2 : Int32) (h : tw_H) (S1 : Nat → Int32) (A1 : Nat → Nat → Int32), tw_M n m h S1 A1 → j25b x1 x2 h = true → J25 x1 x2 (S1 0) (S1 1) (S1 2) (S1 3) (A1 1) (A1 2) (A1 3) (A1 4) (A1 5) (A1 6) (A1 7) (A1 8) (A1 9) (A1 10) (A1 11) (A1 12) (A1 13) (A1 14) (A1 15) (A1 16) (A1 17) (A1 18) (A1 19) (A1 20) (A1 21) (A1 22) (A1 23) (A1 24) (A1 25)) : ∀ (kk : Nat) (x2 x5 x6 : Int32) (h : tw_H) (S : Nat → Int32) (A : Nat → Nat → Int32), tw_M n m h S A → tb_listPiece_75 q j25b x3 kk x2 x5 x6 h = true → wX_listPiece_75 post J25 x3 kk x2 x5 x6 (S 0) (S 1) (S 2) (S 3) (A 1) (A 2) (A 3) (A 4) (A 5) (A 6) (A 7) (A 8) (A 9) (A 10) (A 11) (A 12) (A 13) (A 14) (A 15) (A 16) (A 17) (A 18) (A 19) (A 20) (A 21) (A 22) (A 23) (A 24) (A 25) := by
  intro kk
  induction kk with
  | zero => intro x2 x5 x6 h S A hM hb; exact (Bool.false_ne_true hb).elim
  | succ kk ih =>
    intro x2 x5 x6 h S A hM hb
    unfold tb_listPiece_75 at hb
    unfold wX_listPiece_75
    refine And.intro (fun hc1 => ?_) (fun hc1 => ?_)
    · replace hb := tw_bt hc1 hb
      intro x3_15 e_x3_15
      replace hb := tw_f_ok hb e_x3_15
      exact hJ25 _ _ _ S A hM hb
    · replace hb := tw_bf hc1 hb
      refine And.intro (fun hc2 => ?_) (fun hc2 => ?_)
      · replace hb := tw_bt hc2 hb
        intro x3_17 e_x3_17
        replace hb := tw_f_ok hb e_x3_17
        exact hJ25 _ _ _ S A hM hb
      · replace hb := tw_bf hc2 hb
        refine ts_offer ?_ (S := S) (A := A) hM hb
        intro r_18 h3 S4 A5 hM hb
        have hi6 := (tw_in_ok hb).1
        replace hb := (tw_in_ok hb).2
        refine And.intro hi6 ?_
        intro x5_99 e_x5_99
        replace hb := tw_rd_ok (f := (A5 3)) hM hb rfl rfl e_x5_99
        intro x6_100 e_x6_100
        replace hb := tw_f_ok hb e_x6_100
        exact ih _ _ _ _ S4 A5 hM hb
def tb_listPiece_25 (q : Int32 → tw_H → Bool) : Nat → Int32 → Int32 → tw_H → Bool
  | 0 => fun _ _ _ => false
  | kk + 1 => fun x2 x3 h => (if x2 ≤ x3 then q x2 h else (if (24 : Int32) ≤ x3 then q x2 h else (tw_in x3 24 && tw_rd h 20 (x3).toNatClampNeg (fun x4_10 => (if x4_10 ≤ (0 : Int32) then (tw_in x4_10 24 && tw_rd h 2 (x4_10).toNatClampNeg (fun x5_13 => tb_listPiece_75 q (tb_listPiece_25 q kk) x3 650 x2 x5_13 (0 : Int32) h)) else (tw_in x4_10 24 && tw_rd h 1 (x4_10).toNatClampNeg (fun v7 => tb_offer (fun r_102 h8 => tw_rd h8 2 (x4_10).toNatClampNeg (fun x5_183 => tb_listPiece_75 q (tb_listPiece_25 q kk) x3 650 r_102 x5_183 (0 : Int32) h8)) v7 x3 x2 h)))))))
theorem ts_listPiece_25 {n m : Int32} {post : Int32 → St2 → Prop} {q : Int32 → tw_H → Bool} (hq : ∀ (r : Int32) (h : tw_H) (S : Nat → Int32) (A : Nat → Nat → Int32), tw_M n m h S A → q r h = true → post r (S 0, S 1, S 2, S 3, A 1, A 2, A 3, A 4, A 5, A 6, A 7, A 8, A 9, A 10, A 11, A 12, A 13, A 14, A 15, A 16, A 17, A 18, A 19, A 20, A 21, A 22, A 23, A 24, A 25)) : ∀ (kk : Nat) (x2 x3 : Int32) (h : tw_H) (S : Nat → Int32) (A : Nat → Nat → Int32), tw_M n m h S A → tb_listPiece_25 q kk x2 x3 h = true → wX_listPiece_25 post kk x2 x3 (S 0) (S 1) (S 2) (S 3) (A 1) (A 2) (A 3) (A 4) (A 5) (A 6) (A 7) (A 8) (A 9) (A 10) (A 11) (A 12) (A 13) (A 14) (A 15) (A 16) (A 17) (A 18) (A 19) (A 20) (A 21) (A 22) (A 23) (A 24) (A 25) := by
  intro kk
  induction kk with
  | zero => intro x2 x3 h S A hM hb; exact (Bool.false_ne_true hb).elim
  | succ kk ih =>
    intro x2 x3 h S A hM hb
    unfold tb_listPiece_25 at hb
    unfold wX_listPiece_25
    refine And.intro (fun hc1 => ?_) (fun hc1 => ?_)
    · replace hb := tw_bt hc1 hb
      exact hq _ _ S A hM hb
    · replace hb := tw_bf hc1 hb
      refine And.intro (fun hc2 => ?_) (fun hc2 => ?_)
      · replace hb := tw_bt hc2 hb
        exact hq _ _ S A hM hb
      · replace hb := tw_bf hc2 hb
        have hi3 := (tw_in_ok hb).1
        replace hb := (tw_in_ok hb).2
        refine And.intro hi3 ?_
        intro x4_10 e_x4_10
        replace hb := tw_rd_ok (f := (A 20)) hM hb rfl rfl e_x4_10
        refine And.intro (fun hc4 => ?_) (fun hc4 => ?_)
        · replace hb := tw_bt hc4 hb
          have hi5 := (tw_in_ok hb).1
          replace hb := (tw_in_ok hb).2
          refine And.intro hi5 ?_
          intro x5_13 e_x5_13
          replace hb := tw_rd_ok (f := (A 2)) hM hb rfl rfl e_x5_13
          refine Exists.intro 650 ?_
          exact ts_listPiece_75 hq ih _ _ _ _ _ S A hM hb
        · replace hb := tw_bf hc4 hb
          have hi6 := (tw_in_ok hb).1
          replace hb := (tw_in_ok hb).2
          refine And.intro hi6 ?_
          replace hb := tw_rd_ok (f := (A 1)) hM hb rfl rfl rfl
          refine ts_offer ?_ (S := S) (A := A) hM hb
          intro r_102 h8 S9 A10 hM hb
          refine And.intro hi6 ?_
          intro x5_183 e_x5_183
          replace hb := tw_rd_ok (f := (A10 2)) hM hb rfl rfl e_x5_183
          refine Exists.intro 650 ?_
          exact ts_listPiece_75 hq ih _ _ _ _ _ S9 A10 hM hb
def tb_listPiece (q : Int32 → tw_H → Bool) (p0 : Int32) (h : tw_H) : Bool := tw_wr h 20 0 p0 (fun h1 => tw_wr h1 21 0 (-(1 : Int32)) (fun h2 => tw_wr h2 22 0 (0 : Int32) (fun h3 => tb_listPiece_25 q 650 (1 : Int32) (0 : Int32) h3)))
theorem ts_listPiece {n m : Int32} {post : Int32 → St2 → Prop} {q : Int32 → tw_H → Bool} {p0 : Int32} {h : tw_H} {S : Nat → Int32} {A : Nat → Nat → Int32} (hq : ∀ (r : Int32) (h : tw_H) (S : Nat → Int32) (A : Nat → Nat → Int32), tw_M n m h S A → q r h = true → post r (S 0, S 1, S 2, S 3, A 1, A 2, A 3, A 4, A 5, A 6, A 7, A 8, A 9, A 10, A 11, A 12, A 13, A 14, A 15, A 16, A 17, A 18, A 19, A 20, A 21, A 22, A 23, A 24, A 25)) (hM : tw_M n m h S A) (hb : tb_listPiece q p0 h = true) : wpX_listPiece post (S 0, S 1, S 2, S 3, A 1, A 2, A 3, A 4, A 5, A 6, A 7, A 8, A 9, A 10, A 11, A 12, A 13, A 14, A 15, A 16, A 17, A 18, A 19, A 20, A 21, A 22, A 23, A 24, A 25) p0 := by
  unfold tb_listPiece at hb
  unfold wpX_listPiece
  intro a20_2 e_a20_2
  obtain ⟨h1, hM, hb⟩ := tw_wr_ok (g := (A 20)) hM hb rfl rfl e_a20_2
  intro a21_4 e_a21_4
  obtain ⟨h2, hM, hb⟩ := tw_wr_ok (g := (A 21)) hM hb rfl rfl e_a21_4
  intro a22_6 e_a22_6
  obtain ⟨h3, hM, hb⟩ := tw_wr_ok (g := (A 22)) hM hb rfl rfl e_a22_6
  refine Exists.intro 650 ?_
  exact ts_listPiece_25 hq _ _ _ _ S (tw_st (tw_st (tw_st A 20 a20_2) 21 a21_4) 22 a22_6) hM hb
def tb_middleOf_56 (q : Int32 → tw_H → Bool) (j29b : Int32 → Int32 → Int32 → tw_H → Bool) (x1 : Int32) (x2 : Int32) (x3 : Int32) (x4 : Int32) (h : tw_H) : Bool := (if x4 ≤ (0 : Int32) then tw_f (x4 + (-(1 : Int32))) (fun x4_7 => j29b x2 x3 x4_7 h) else (tw_in x4 24 && tw_rd h 21 (x4).toNatClampNeg (fun v3 => (tw_in v3 24 && tw_rd h 23 (v3).toNatClampNeg (fun v5 => tw_rd h 23 (x4).toNatClampNeg (fun v6 => tw_wr h 23 (v3).toNatClampNeg (v5 + v6) (fun h7 => tw_f (x4 + (-(1 : Int32))) (fun x4_14 => j29b x2 x3 x4_14 h7))))))))
theorem ts_middleOf_56 {n m : Int32} {post : Int32 → St2 → Prop} {q : Int32 → tw_H → Bool} {J29 : Int32 → Int32 → Int32 → (Nat → Int32) → (Nat → Int32) → (Nat → Int32) → (Nat → Int32) → (Nat → Int32) → (Nat → Int32) → (Nat → Int32) → (Nat → Int32) → (Nat → Int32) → (Nat → Int32) → (Nat → Int32) → (Nat → Int32) → (Nat → Int32) → (Nat → Int32) → (Nat → Int32) → (Nat → Int32) → (Nat → Int32) → (Nat → Int32) → (Nat → Int32) → (Nat → Int32) → (Nat → Int32) → (Nat → Int32) → (Nat → Int32) → (Nat → Int32) → (Nat → Int32) → Prop} {j29b : Int32 → Int32 → Int32 → tw_H → Bool} {x1 : Int32} {x2 : Int32} {x3 : Int32} {x4 : Int32} {h : tw_H} {S : Nat → Int32} {A : Nat → Nat → Int32} (hq : ∀ (r : Int32) (h : tw_H) (S : Nat → Int32) (A : Nat → Nat → Int32), tw_M n m h S A → q r h = true → post r (S 0, S 1, S 2, S 3, A 1, A 2, A 3, A 4, A 5, A 6, A 7, A 8, A 9, A 10, A 11, A 12, A 13, A 14, A 15, A 16, A 17, A 18, A 19, A 20, A 21, A 22, A 23, A 24, A 25)) (hJ29 : ∀ (x1 x2 x3 : Int32) (h : tw_H) (A1 : Nat → Nat → Int32), tw_M n m h S A1 → j29b x1 x2 x3 h = true → J29 x1 x2 x3 (A1 1) (A1 2) (A1 3) (A1 4) (A1 5) (A1 6) (A1 7) (A1 8) (A1 9) (A1 10) (A1 11) (A1 12) (A1 13) (A1 14) (A1 15) (A1 16) (A1 17) (A1 18) (A1 19) (A1 20) (A1 21) (A1 22) (A1 23) (A1 24) (A1 25)) (hM : tw_M n m h S A) (hb : tb_middleOf_56 q j29b x1 x2 x3 x4 h = true) : wX_middleOf_56 post J29 x1 x2 x3 x4 (S 0) (S 1) (S 2) (S 3) (A 1) (A 2) (A 3) (A 4) (A 5) (A 6) (A 7) (A 8) (A 9) (A 10) (A 11) (A 12) (A 13) (A 14) (A 15) (A 16) (A 17) (A 18) (A 19) (A 20) (A 21) (A 22) (A 23) (A 24) (A 25) := by
  unfold tb_middleOf_56 at hb
  unfold wX_middleOf_56
  refine And.intro (fun hc1 => ?_) (fun hc1 => ?_)
  · replace hb := tw_bt hc1 hb
    intro x4_7 e_x4_7
    replace hb := tw_f_ok hb e_x4_7
    exact hJ29 _ _ _ _ A hM hb
  · replace hb := tw_bf hc1 hb
    have hi2 := (tw_in_ok hb).1
    replace hb := (tw_in_ok hb).2
    refine And.intro hi2 ?_
    refine And.intro hi2 ?_
    replace hb := tw_rd_ok (f := (A 21)) hM hb rfl rfl rfl
    have hi4 := (tw_in_ok hb).1
    replace hb := (tw_in_ok hb).2
    refine And.intro hi4 ?_
    refine And.intro hi2 ?_
    refine And.intro hi4 ?_
    replace hb := tw_rd_ok (f := (A 23)) hM hb rfl rfl rfl
    replace hb := tw_rd_ok (f := (A 23)) hM hb rfl rfl rfl
    intro a23_13 e_a23_13
    obtain ⟨h7, hM, hb⟩ := tw_wr_ok (g := (A 23)) hM hb rfl rfl e_a23_13
    intro x4_14 e_x4_14
    replace hb := tw_f_ok hb e_x4_14
    exact hJ29 _ _ _ _ (tw_st A 23 a23_13) hM hb
def tb_middleOf_29 (q : Int32 → tw_H → Bool) (x1 : Int32) : Nat → Int32 → Int32 → Int32 → tw_H → Bool
  | 0 => fun _ _ _ _ => false
  | kk + 1 => fun x2 x3 x4 h => (if x4 < (0 : Int32) then (tw_in x2 24 && tw_rd h 20 (x2).toNatClampNeg (fun v3 => q v3 h)) else (if x3 = (0 : Int32) then (tw_in x4 24 && tw_rd h 23 (x4).toNatClampNeg (fun v6 => (if ((2 : Int32) * v6) < x1 then tb_middleOf_56 q (tb_middleOf_29 q x1 kk) x1 x2 x3 x4 h else tb_middleOf_56 q (tb_middleOf_29 q x1 kk) x1 x4 (1 : Int32) x4 h))) else tb_middleOf_56 q (tb_middleOf_29 q x1 kk) x1 x2 x3 x4 h))
theorem ts_middleOf_29 {n m : Int32} {post : Int32 → St2 → Prop} {q : Int32 → tw_H → Bool} {x1 : Int32} (hq : ∀ (r : Int32) (h : tw_H) (S : Nat → Int32) (A : Nat → Nat → Int32), tw_M n m h S A → q r h = true → post r (S 0, S 1, S 2, S 3, A 1, A 2, A 3, A 4, A 5, A 6, A 7, A 8, A 9, A 10, A 11, A 12, A 13, A 14, A 15, A 16, A 17, A 18, A 19, A 20, A 21, A 22, A 23, A 24, A 25)) : ∀ (kk : Nat) (x2 x3 x4 : Int32) (h : tw_H) (S : Nat → Int32) (A : Nat → Nat → Int32), tw_M n m h S A → tb_middleOf_29 q x1 kk x2 x3 x4 h = true → wX_middleOf_29 post x1 (S 0) (S 1) (S 2) (S 3) kk x2 x3 x4 (A 1) (A 2) (A 3) (A 4) (A 5) (A 6) (A 7) (A 8) (A 9) (A 10) (A 11) (A 12) (A 13) (A 14) (A 15) (A 16) (A 17) (A 18) (A 19) (A 20) (A 21) (A 22) (A 23) (A 24) (A 25) := by
  intro kk
  induction kk with
  | zero => intro x2 x3 x4 h S A hM hb; exact (Bool.false_ne_true hb).elim
  | succ kk ih =>
    intro x2 x3 x4 h S A hM hb
    unfold tb_middleOf_29 at hb
    unfold wX_middleOf_29
    refine And.intro (fun hc1 => ?_) (fun hc1 => ?_)
    · replace hb := tw_bt hc1 hb
      have hi2 := (tw_in_ok hb).1
      replace hb := (tw_in_ok hb).2
      refine And.intro hi2 ?_
      replace hb := tw_rd_ok (f := (A 20)) hM hb rfl rfl rfl
      exact hq _ _ S A hM hb
    · replace hb := tw_bf hc1 hb
      refine And.intro (fun hc4 => ?_) (fun hc4 => ?_)
      · replace hb := tw_bt hc4 hb
        have hi5 := (tw_in_ok hb).1
        replace hb := (tw_in_ok hb).2
        refine And.intro hi5 ?_
        replace hb := tw_rd_ok (f := (A 23)) hM hb rfl rfl rfl
        refine And.intro (fun hc7 => ?_) (fun hc7 => ?_)
        · replace hb := tw_bt hc7 hb
          exact ts_middleOf_56 hq (fun y0 y1 y2 h A1 hM hb => ih y0 y1 y2 h S A1 hM hb) (S := S) (A := A) hM hb
        · replace hb := tw_bf hc7 hb
          exact ts_middleOf_56 hq (fun y0 y1 y2 h A1 hM hb => ih y0 y1 y2 h S A1 hM hb) (S := S) (A := A) hM hb
      · replace hb := tw_bf hc4 hb
        exact ts_middleOf_56 hq (fun y0 y1 y2 h A1 hM hb => ih y0 y1 y2 h S A1 hM hb) (S := S) (A := A) hM hb
def tb_middleOf_2 (q : Int32 → tw_H → Bool) (x1 : Int32) : Nat → Int32 → tw_H → Bool
  | 0 => fun _ _ => false
  | kk + 1 => fun x2 h => (if x1 ≤ x2 then tw_f (x1 - (1 : Int32)) (fun x4_2 => tb_middleOf_29 q x1 650 (0 : Int32) (0 : Int32) x4_2 h) else (tw_in x2 24 && tw_wr h 23 (x2).toNatClampNeg (1 : Int32) (fun h3 => tw_f (x2 + (1 : Int32)) (fun x2_19 => tb_middleOf_2 q x1 kk x2_19 h3))))
theorem ts_middleOf_2 {n m : Int32} {post : Int32 → St2 → Prop} {q : Int32 → tw_H → Bool} {x1 : Int32} (hq : ∀ (r : Int32) (h : tw_H) (S : Nat → Int32) (A : Nat → Nat → Int32), tw_M n m h S A → q r h = true → post r (S 0, S 1, S 2, S 3, A 1, A 2, A 3, A 4, A 5, A 6, A 7, A 8, A 9, A 10, A 11, A 12, A 13, A 14, A 15, A 16, A 17, A 18, A 19, A 20, A 21, A 22, A 23, A 24, A 25)) : ∀ (kk : Nat) (x2 : Int32) (h : tw_H) (S : Nat → Int32) (A : Nat → Nat → Int32), tw_M n m h S A → tb_middleOf_2 q x1 kk x2 h = true → wX_middleOf_2 post x1 (S 0) (S 1) (S 2) (S 3) kk x2 (A 1) (A 2) (A 3) (A 4) (A 5) (A 6) (A 7) (A 8) (A 9) (A 10) (A 11) (A 12) (A 13) (A 14) (A 15) (A 16) (A 17) (A 18) (A 19) (A 20) (A 21) (A 22) (A 23) (A 24) (A 25) := by
  intro kk
  induction kk with
  | zero => intro x2 h S A hM hb; exact (Bool.false_ne_true hb).elim
  | succ kk ih =>
    intro x2 h S A hM hb
    unfold tb_middleOf_2 at hb
    unfold wX_middleOf_2
    refine And.intro (fun hc1 => ?_) (fun hc1 => ?_)
    · replace hb := tw_bt hc1 hb
      intro x4_2 e_x4_2
      replace hb := tw_f_ok hb e_x4_2
      refine Exists.intro 650 ?_
      exact ts_middleOf_29 hq _ _ _ _ _ S A hM hb
    · replace hb := tw_bf hc1 hb
      have hi2 := (tw_in_ok hb).1
      replace hb := (tw_in_ok hb).2
      refine And.intro hi2 ?_
      intro a23_18 e_a23_18
      obtain ⟨h3, hM, hb⟩ := tw_wr_ok (g := (A 23)) hM hb rfl rfl e_a23_18
      intro x2_19 e_x2_19
      replace hb := tw_f_ok hb e_x2_19
      exact ih _ _ S (tw_st A 23 a23_18) hM hb
def tb_middleOf (q : Int32 → tw_H → Bool) (p0 : Int32) (h : tw_H) : Bool := tb_middleOf_2 q p0 650 (0 : Int32) h
theorem ts_middleOf {n m : Int32} {post : Int32 → St2 → Prop} {q : Int32 → tw_H → Bool} {p0 : Int32} {h : tw_H} {S : Nat → Int32} {A : Nat → Nat → Int32} (hq : ∀ (r : Int32) (h : tw_H) (S : Nat → Int32) (A : Nat → Nat → Int32), tw_M n m h S A → q r h = true → post r (S 0, S 1, S 2, S 3, A 1, A 2, A 3, A 4, A 5, A 6, A 7, A 8, A 9, A 10, A 11, A 12, A 13, A 14, A 15, A 16, A 17, A 18, A 19, A 20, A 21, A 22, A 23, A 24, A 25)) (hM : tw_M n m h S A) (hb : tb_middleOf q p0 h = true) : wpX_middleOf post (S 0, S 1, S 2, S 3, A 1, A 2, A 3, A 4, A 5, A 6, A 7, A 8, A 9, A 10, A 11, A 12, A 13, A 14, A 15, A 16, A 17, A 18, A 19, A 20, A 21, A 22, A 23, A 24, A 25) p0 := by
  unfold tb_middleOf at hb
  unfold wpX_middleOf
  refine Exists.intro 650 ?_
  exact ts_middleOf_2 hq _ _ _ S A hM hb
def tb_partPieces_199 (q : tw_H → Bool) (j22b : Int32 → Int32 → tw_H → Bool) (x2 : Int32) (x3 : Int32) (x4 : Int32) : Nat → Int32 → Int32 → tw_H → Bool
  | 0 => fun _ _ _ => false
  | kk + 1 => fun x1 x5 h => (if x3 ≤ x5 then tw_f (x2 + (1 : Int32)) (fun x2_337 => j22b x1 x2_337 h) else (tw_in x5 24 && tw_rd h 22 (x5).toNatClampNeg (fun v3 => (if v3 = (1 : Int32) then (tw_in x1 24 && tw_rd h 20 (x5).toNatClampNeg (fun v6 => tw_wr h 24 (x1).toNatClampNeg v6 (fun h7 => tw_wr h7 25 (x1).toNatClampNeg x4 (fun h8 => tw_f (x1 + (1 : Int32)) (fun x1_346 => tw_f (x5 + (1 : Int32)) (fun x5_347 => tb_partPieces_199 q j22b x2 x3 x4 kk x1_346 x5_347 h8)))))) else tw_f (x5 + (1 : Int32)) (fun x5_340 => tb_partPieces_199 q j22b x2 x3 x4 kk x1 x5_340 h)))))
theorem ts_partPieces_199 {n m : Int32} {post : St2 → Prop} {q : tw_H → Bool} {J22 : Int32 → Int32 → Int32 → Int32 → Int32 → Int32 → (Nat → Int32) → (Nat → Int32) → (Nat → Int32) → (Nat → Int32) → (Nat → Int32) → (Nat → Int32) → (Nat → Int32) → (Nat → Int32) → (Nat → Int32) → (Nat → Int32) → (Nat → Int32) → (Nat → Int32) → (Nat → Int32) → (Nat → Int32) → (Nat → Int32) → (Nat → Int32) → (Nat → Int32) → (Nat → Int32) → (Nat → Int32) → (Nat → Int32) → (Nat → Int32) → (Nat → Int32) → (Nat → Int32) → (Nat → Int32) → (Nat → Int32) → Prop} {j22b : Int32 → Int32 → tw_H → Bool} {x2 : Int32} {x3 : Int32} {x4 : Int32} (hq : ∀ (h : tw_H) (S : Nat → Int32) (A : Nat → Nat → Int32), tw_M n m h S A → q h = true → post (S 0, S 1, S 2, S 3, A 1, A 2, A 3, A 4, A 5, A 6, A 7, A 8, A 9, A 10, A 11, A 12, A 13, A 14, A 15, A 16, A 17, A 18, A 19, A 20, A 21, A 22, A 23, A 24, A 25)) (hJ22 : ∀ (x1 x2 : Int32) (h : tw_H) (S1 : Nat → Int32) (A1 : Nat → Nat → Int32), tw_M n m h S1 A1 → j22b x1 x2 h = true → J22 x1 x2 (S1 0) (S1 1) (S1 2) (S1 3) (A1 1) (A1 2) (A1 3) (A1 4) (A1 5) (A1 6) (A1 7) (A1 8) (A1 9) (A1 10) (A1 11) (A1 12) (A1 13) (A1 14) (A1 15) (A1 16) (A1 17) (A1 18) (A1 19) (A1 20) (A1 21) (A1 22) (A1 23) (A1 24) (A1 25)) : ∀ (kk : Nat) (x1 x5 : Int32) (h : tw_H) (S : Nat → Int32) (A : Nat → Nat → Int32), tw_M n m h S A → tb_partPieces_199 q j22b x2 x3 x4 kk x1 x5 h = true → wX_partPieces_199 post J22 x2 x3 x4 (S 0) (S 1) (S 2) (S 3) kk x1 x5 (A 1) (A 2) (A 3) (A 4) (A 5) (A 6) (A 7) (A 8) (A 9) (A 10) (A 11) (A 12) (A 13) (A 14) (A 15) (A 16) (A 17) (A 18) (A 19) (A 20) (A 21) (A 22) (A 23) (A 24) (A 25) := by
  intro kk
  induction kk with
  | zero => intro x1 x5 h S A hM hb; exact (Bool.false_ne_true hb).elim
  | succ kk ih =>
    intro x1 x5 h S A hM hb
    unfold tb_partPieces_199 at hb
    unfold wX_partPieces_199
    refine And.intro (fun hc1 => ?_) (fun hc1 => ?_)
    · replace hb := tw_bt hc1 hb
      intro x2_337 e_x2_337
      replace hb := tw_f_ok hb e_x2_337
      exact hJ22 _ _ _ S A hM hb
    · replace hb := tw_bf hc1 hb
      have hi2 := (tw_in_ok hb).1
      replace hb := (tw_in_ok hb).2
      refine And.intro hi2 ?_
      replace hb := tw_rd_ok (f := (A 22)) hM hb rfl rfl rfl
      refine And.intro (fun hc4 => ?_) (fun hc4 => ?_)
      · replace hb := tw_bt hc4 hb
        refine And.intro hi2 ?_
        have hi5 := (tw_in_ok hb).1
        replace hb := (tw_in_ok hb).2
        refine And.intro hi5 ?_
        replace hb := tw_rd_ok (f := (A 20)) hM hb rfl rfl rfl
        intro am13124_343 e_am13124_343
        obtain ⟨h7, hM, hb⟩ := tw_wr_ok (g := (A 24)) hM hb rfl rfl e_am13124_343
        refine And.intro hi5 ?_
        intro am13125_345 e_am13125_345
        obtain ⟨h8, hM, hb⟩ := tw_wr_ok (g := (A 25)) hM hb rfl rfl e_am13125_345
        intro x1_346 e_x1_346
        replace hb := tw_f_ok hb e_x1_346
        intro x5_347 e_x5_347
        replace hb := tw_f_ok hb e_x5_347
        exact ih _ _ _ S (tw_st (tw_st A 24 am13124_343) 25 am13125_345) hM hb
      · replace hb := tw_bf hc4 hb
        intro x5_340 e_x5_340
        replace hb := tw_f_ok hb e_x5_340
        exact ih _ _ _ S A hM hb
def tb_partPieces_138 (q : tw_H → Bool) (j22b : Int32 → Int32 → tw_H → Bool) (x1 : Int32) (x2 : Int32) (x3 : Int32) (x4 : Int32) : Nat → Int32 → tw_H → Bool
  | 0 => fun _ _ => false
  | kk + 1 => fun x5 h => (if x3 ≤ x5 then (tw_in x4 24 && tw_wr h 16 (x4).toNatClampNeg (1 : Int32) (fun h3 => tb_partPieces_199 q j22b x2 x3 x4 650 x1 (0 : Int32) h3)) else (tw_in x5 24 && tw_rd h 22 (x5).toNatClampNeg (fun v5 => (tw_in (((25 : Int32) * x4) + v5) 600 && tw_f (x5 + (1 : Int32)) (fun x5_353 => tb_partPieces_138 q j22b x1 x2 x3 x4 kk x5_353 h)))))
theorem ts_partPieces_138 {n m : Int32} {post : St2 → Prop} {q : tw_H → Bool} {J22 : Int32 → Int32 → Int32 → Int32 → Int32 → Int32 → (Nat → Int32) → (Nat → Int32) → (Nat → Int32) → (Nat → Int32) → (Nat → Int32) → (Nat → Int32) → (Nat → Int32) → (Nat → Int32) → (Nat → Int32) → (Nat → Int32) → (Nat → Int32) → (Nat → Int32) → (Nat → Int32) → (Nat → Int32) → (Nat → Int32) → (Nat → Int32) → (Nat → Int32) → (Nat → Int32) → (Nat → Int32) → (Nat → Int32) → (Nat → Int32) → (Nat → Int32) → (Nat → Int32) → (Nat → Int32) → (Nat → Int32) → Prop} {j22b : Int32 → Int32 → tw_H → Bool} {x1 : Int32} {x2 : Int32} {x3 : Int32} {x4 : Int32} (hq : ∀ (h : tw_H) (S : Nat → Int32) (A : Nat → Nat → Int32), tw_M n m h S A → q h = true → post (S 0, S 1, S 2, S 3, A 1, A 2, A 3, A 4, A 5, A 6, A 7, A 8, A 9, A 10, A 11, A 12, A 13, A 14, A 15, A 16, A 17, A 18, A 19, A 20, A 21, A 22, A 23, A 24, A 25)) (hJ22 : ∀ (x1 x2 : Int32) (h : tw_H) (S1 : Nat → Int32) (A1 : Nat → Nat → Int32), tw_M n m h S1 A1 → j22b x1 x2 h = true → J22 x1 x2 (S1 0) (S1 1) (S1 2) (S1 3) (A1 1) (A1 2) (A1 3) (A1 4) (A1 5) (A1 6) (A1 7) (A1 8) (A1 9) (A1 10) (A1 11) (A1 12) (A1 13) (A1 14) (A1 15) (A1 16) (A1 17) (A1 18) (A1 19) (A1 20) (A1 21) (A1 22) (A1 23) (A1 24) (A1 25)) : ∀ (kk : Nat) (x5 : Int32) (h : tw_H) (S : Nat → Int32) (A : Nat → Nat → Int32), tw_M n m h S A → tb_partPieces_138 q j22b x1 x2 x3 x4 kk x5 h = true → wX_partPieces_138 post J22 x1 x2 x3 x4 (S 0) (S 1) (S 2) (S 3) kk x5 (A 1) (A 2) (A 3) (A 4) (A 5) (A 6) (A 7) (A 8) (A 9) (A 10) (A 11) (A 12) (A 13) (A 14) (A 15) (A 16) (A 17) (A 18) (A 19) (A 20) (A 21) (A 22) (A 23) (A 24) (A 25) := by
  intro kk
  induction kk with
  | zero => intro x5 h S A hM hb; exact (Bool.false_ne_true hb).elim
  | succ kk ih =>
    intro x5 h S A hM hb
    unfold tb_partPieces_138 at hb
    unfold wX_partPieces_138
    refine And.intro (fun hc1 => ?_) (fun hc1 => ?_)
    · replace hb := tw_bt hc1 hb
      have hi2 := (tw_in_ok hb).1
      replace hb := (tw_in_ok hb).2
      refine And.intro hi2 ?_
      intro am13116_335 e_am13116_335
      obtain ⟨h3, hM, hb⟩ := tw_wr_ok (g := (A 16)) hM hb rfl rfl e_am13116_335
      refine Exists.intro 650 ?_
      exact ts_partPieces_199 hq hJ22 _ _ _ _ S (tw_st A 16 am13116_335) hM hb
    · replace hb := tw_bf hc1 hb
      have hi4 := (tw_in_ok hb).1
      replace hb := (tw_in_ok hb).2
      refine And.intro hi4 ?_
      refine And.intro hi4 ?_
      replace hb := tw_rd_ok (f := (A 22)) hM hb rfl rfl rfl
      have hi6 := (tw_in_ok hb).1
      replace hb := (tw_in_ok hb).2
      refine And.intro hi6 ?_
      refine And.intro hi6 ?_
      intro am13118_352 e_am13118_352
      replace hM := tw_stU (i := 18) (f := am13118_352) hM rfl
      intro x5_353 e_x5_353
      replace hb := tw_f_ok hb e_x5_353
      exact ih _ _ S (tw_st A 18 am13118_352) hM hb
def tb_partPieces_128 (q : tw_H → Bool) (j22b : Int32 → Int32 → tw_H → Bool) (x1 : Int32) (x2 : Int32) (x4 : Int32) (h : tw_H) : Bool := tb_listPiece (fun r_253 h1 => tb_partPieces_138 q j22b x1 x2 r_253 x4 650 (0 : Int32) h1) x4 h
theorem ts_partPieces_128 {n m : Int32} {post : St2 → Prop} {q : tw_H → Bool} {J22 : Int32 → Int32 → Int32 → Int32 → Int32 → Int32 → (Nat → Int32) → (Nat → Int32) → (Nat → Int32) → (Nat → Int32) → (Nat → Int32) → (Nat → Int32) → (Nat → Int32) → (Nat → Int32) → (Nat → Int32) → (Nat → Int32) → (Nat → Int32) → (Nat → Int32) → (Nat → Int32) → (Nat → Int32) → (Nat → Int32) → (Nat → Int32) → (Nat → Int32) → (Nat → Int32) → (Nat → Int32) → (Nat → Int32) → (Nat → Int32) → (Nat → Int32) → (Nat → Int32) → (Nat → Int32) → (Nat → Int32) → Prop} {j22b : Int32 → Int32 → tw_H → Bool} {x1 : Int32} {x2 : Int32} {x4 : Int32} {h : tw_H} {S : Nat → Int32} {A : Nat → Nat → Int32} (hq : ∀ (h : tw_H) (S : Nat → Int32) (A : Nat → Nat → Int32), tw_M n m h S A → q h = true → post (S 0, S 1, S 2, S 3, A 1, A 2, A 3, A 4, A 5, A 6, A 7, A 8, A 9, A 10, A 11, A 12, A 13, A 14, A 15, A 16, A 17, A 18, A 19, A 20, A 21, A 22, A 23, A 24, A 25)) (hJ22 : ∀ (x1 x2 : Int32) (h : tw_H) (S1 : Nat → Int32) (A1 : Nat → Nat → Int32), tw_M n m h S1 A1 → j22b x1 x2 h = true → J22 x1 x2 (S1 0) (S1 1) (S1 2) (S1 3) (A1 1) (A1 2) (A1 3) (A1 4) (A1 5) (A1 6) (A1 7) (A1 8) (A1 9) (A1 10) (A1 11) (A1 12) (A1 13) (A1 14) (A1 15) (A1 16) (A1 17) (A1 18) (A1 19) (A1 20) (A1 21) (A1 22) (A1 23) (A1 24) (A1 25)) (hM : tw_M n m h S A) (hb : tb_partPieces_128 q j22b x1 x2 x4 h = true) : wX_partPieces_128 post J22 x1 x2 x4 (S 0) (S 1) (S 2) (S 3) (A 1) (A 2) (A 3) (A 4) (A 5) (A 6) (A 7) (A 8) (A 9) (A 10) (A 11) (A 12) (A 13) (A 14) (A 15) (A 16) (A 17) (A 18) (A 19) (A 20) (A 21) (A 22) (A 23) (A 24) (A 25) := by
  unfold tb_partPieces_128 at hb
  unfold wX_partPieces_128
  refine ts_listPiece ?_ (S := S) (A := A) hM hb
  intro r_253 h1 S2 A3 hM hb
  refine Exists.intro 650 ?_
  exact ts_partPieces_138 hq hJ22 _ _ _ S2 A3 hM hb
def tb_partPieces_77 (q : tw_H → Bool) (j22b : Int32 → Int32 → tw_H → Bool) (x1 : Int32) (x2 : Int32) (x3 : Int32) (x4 : Int32) : Nat → Int32 → tw_H → Bool
  | 0 => fun _ _ => false
  | kk + 1 => fun x5 h => (if x3 ≤ x5 then tb_partPieces_128 q j22b x1 x2 x4 h else (tw_in x5 24 && tw_rd h 22 (x5).toNatClampNeg (fun v3 => tw_f (v3 + (1 : Int32)) (fun x6_356 => (tw_in (((25 : Int32) * x4) + x6_356) 600 && tw_f (x5 + (1 : Int32)) (fun x5_360 => tb_partPieces_77 q j22b x1 x2 x3 x4 kk x5_360 h))))))
theorem ts_partPieces_77 {n m : Int32} {post : St2 → Prop} {q : tw_H → Bool} {J22 : Int32 → Int32 → Int32 → Int32 → Int32 → Int32 → (Nat → Int32) → (Nat → Int32) → (Nat → Int32) → (Nat → Int32) → (Nat → Int32) → (Nat → Int32) → (Nat → Int32) → (Nat → Int32) → (Nat → Int32) → (Nat → Int32) → (Nat → Int32) → (Nat → Int32) → (Nat → Int32) → (Nat → Int32) → (Nat → Int32) → (Nat → Int32) → (Nat → Int32) → (Nat → Int32) → (Nat → Int32) → (Nat → Int32) → (Nat → Int32) → (Nat → Int32) → (Nat → Int32) → (Nat → Int32) → (Nat → Int32) → Prop} {j22b : Int32 → Int32 → tw_H → Bool} {x1 : Int32} {x2 : Int32} {x3 : Int32} {x4 : Int32} (hq : ∀ (h : tw_H) (S : Nat → Int32) (A : Nat → Nat → Int32), tw_M n m h S A → q h = true → post (S 0, S 1, S 2, S 3, A 1, A 2, A 3, A 4, A 5, A 6, A 7, A 8, A 9, A 10, A 11, A 12, A 13, A 14, A 15, A 16, A 17, A 18, A 19, A 20, A 21, A 22, A 23, A 24, A 25)) (hJ22 : ∀ (x1 x2 : Int32) (h : tw_H) (S1 : Nat → Int32) (A1 : Nat → Nat → Int32), tw_M n m h S1 A1 → j22b x1 x2 h = true → J22 x1 x2 (S1 0) (S1 1) (S1 2) (S1 3) (A1 1) (A1 2) (A1 3) (A1 4) (A1 5) (A1 6) (A1 7) (A1 8) (A1 9) (A1 10) (A1 11) (A1 12) (A1 13) (A1 14) (A1 15) (A1 16) (A1 17) (A1 18) (A1 19) (A1 20) (A1 21) (A1 22) (A1 23) (A1 24) (A1 25)) : ∀ (kk : Nat) (x5 : Int32) (h : tw_H) (S : Nat → Int32) (A : Nat → Nat → Int32), tw_M n m h S A → tb_partPieces_77 q j22b x1 x2 x3 x4 kk x5 h = true → wX_partPieces_77 post J22 x1 x2 x3 x4 (S 0) (S 1) (S 2) (S 3) kk x5 (A 1) (A 2) (A 3) (A 4) (A 5) (A 6) (A 7) (A 8) (A 9) (A 10) (A 11) (A 12) (A 13) (A 14) (A 15) (A 16) (A 17) (A 18) (A 19) (A 20) (A 21) (A 22) (A 23) (A 24) (A 25) := by
  intro kk
  induction kk with
  | zero => intro x5 h S A hM hb; exact (Bool.false_ne_true hb).elim
  | succ kk ih =>
    intro x5 h S A hM hb
    unfold tb_partPieces_77 at hb
    unfold wX_partPieces_77
    refine And.intro (fun hc1 => ?_) (fun hc1 => ?_)
    · replace hb := tw_bt hc1 hb
      exact ts_partPieces_128 hq hJ22 (S := S) (A := A) hM hb
    · replace hb := tw_bf hc1 hb
      have hi2 := (tw_in_ok hb).1
      replace hb := (tw_in_ok hb).2
      refine And.intro hi2 ?_
      replace hb := tw_rd_ok (f := (A 22)) hM hb rfl rfl rfl
      intro x6_356 e_x6_356
      replace hb := tw_f_ok hb e_x6_356
      have hi4 := (tw_in_ok hb).1
      replace hb := (tw_in_ok hb).2
      refine And.intro hi4 ?_
      refine And.intro hi4 ?_
      intro am4619_359 e_am4619_359
      replace hM := tw_stU (i := 19) (f := am4619_359) hM rfl
      intro x5_360 e_x5_360
      replace hb := tw_f_ok hb e_x5_360
      exact ih _ _ S (tw_st A 19 am4619_359) hM hb
def tb_partPieces_22 (q : tw_H → Bool) : Nat → Int32 → Int32 → tw_H → Bool
  | 0 => fun _ _ _ => false
  | kk + 1 => fun x1 x2 h => (if x1 ≤ x2 then q h else (if (24 : Int32) ≤ x2 then q h else (tw_in x2 24 && tw_rd h 24 (x2).toNatClampNeg (fun v4 => tb_listPiece (fun r_88 h5 => tb_middleOf (fun r_168 h8 => (tw_in r_168 24 && tw_rd h8 25 (x2).toNatClampNeg (fun v12 => tw_wr h8 17 (r_168).toNatClampNeg v12 (fun h13 => tw_rd h13 17 (r_168).toNatClampNeg (fun v14 => (if v14 < (0 : Int32) then tb_partPieces_128 q (tb_partPieces_22 q kk) x1 x2 r_168 h13 else tb_partPieces_77 q (tb_partPieces_22 q kk) x1 x2 r_88 r_168 650 (0 : Int32) h13)))))) r_88 h5) v4 h))))
theorem ts_partPieces_22 {n m : Int32} {post : St2 → Prop} {q : tw_H → Bool} (hq : ∀ (h : tw_H) (S : Nat → Int32) (A : Nat → Nat → Int32), tw_M n m h S A → q h = true → post (S 0, S 1, S 2, S 3, A 1, A 2, A 3, A 4, A 5, A 6, A 7, A 8, A 9, A 10, A 11, A 12, A 13, A 14, A 15, A 16, A 17, A 18, A 19, A 20, A 21, A 22, A 23, A 24, A 25)) : ∀ (kk : Nat) (x1 x2 : Int32) (h : tw_H) (S : Nat → Int32) (A : Nat → Nat → Int32), tw_M n m h S A → tb_partPieces_22 q kk x1 x2 h = true → wX_partPieces_22 post kk x1 x2 (S 0) (S 1) (S 2) (S 3) (A 1) (A 2) (A 3) (A 4) (A 5) (A 6) (A 7) (A 8) (A 9) (A 10) (A 11) (A 12) (A 13) (A 14) (A 15) (A 16) (A 17) (A 18) (A 19) (A 20) (A 21) (A 22) (A 23) (A 24) (A 25) := by
  intro kk
  induction kk with
  | zero => intro x1 x2 h S A hM hb; exact (Bool.false_ne_true hb).elim
  | succ kk ih =>
    intro x1 x2 h S A hM hb
    unfold tb_partPieces_22 at hb
    unfold wX_partPieces_22
    refine And.intro (fun hc1 => ?_) (fun hc1 => ?_)
    · replace hb := tw_bt hc1 hb
      exact hq _ S A hM hb
    · replace hb := tw_bf hc1 hb
      refine And.intro (fun hc2 => ?_) (fun hc2 => ?_)
      · replace hb := tw_bt hc2 hb
        exact hq _ S A hM hb
      · replace hb := tw_bf hc2 hb
        have hi3 := (tw_in_ok hb).1
        replace hb := (tw_in_ok hb).2
        refine And.intro hi3 ?_
        replace hb := tw_rd_ok (f := (A 24)) hM hb rfl rfl rfl
        refine ts_listPiece ?_ (S := S) (A := A) hM hb
        intro r_88 h5 S6 A7 hM hb
        refine ts_middleOf ?_ (S := S6) (A := A7) hM hb
        intro r_168 h8 S9 A10 hM hb
        refine And.intro hi3 ?_
        have hi11 := (tw_in_ok hb).1
        replace hb := (tw_in_ok hb).2
        refine And.intro hi11 ?_
        replace hb := tw_rd_ok (f := (A10 25)) hM hb rfl rfl rfl
        intro am4617_250 e_am4617_250
        obtain ⟨h13, hM, hb⟩ := tw_wr_ok (g := (A10 17)) hM hb rfl rfl e_am4617_250
        refine And.intro hi11 ?_
        replace hb := tw_rd_ok (f := am4617_250) hM hb rfl rfl rfl
        refine And.intro (fun hc15 => ?_) (fun hc15 => ?_)
        · replace hb := tw_bt hc15 hb
          exact ts_partPieces_128 hq ih (S := S9) (A := (tw_st A10 17 am4617_250)) hM hb
        · replace hb := tw_bf hc15 hb
          refine Exists.intro 650 ?_
          exact ts_partPieces_77 hq ih _ _ _ S9 (tw_st A10 17 am4617_250) hM hb
def tb_partPieces (q : tw_H → Bool) (h : tw_H) : Bool := tb_clearNear (fun h1 => tw_wr h1 24 0 (0 : Int32) (fun h4 => tw_wr h4 25 0 (-(1 : Int32)) (fun h5 => tb_partPieces_22 q 650 (1 : Int32) (0 : Int32) h5))) h
theorem ts_partPieces {n m : Int32} {post : St2 → Prop} {q : tw_H → Bool} {h : tw_H} {S : Nat → Int32} {A : Nat → Nat → Int32} (hq : ∀ (h : tw_H) (S : Nat → Int32) (A : Nat → Nat → Int32), tw_M n m h S A → q h = true → post (S 0, S 1, S 2, S 3, A 1, A 2, A 3, A 4, A 5, A 6, A 7, A 8, A 9, A 10, A 11, A 12, A 13, A 14, A 15, A 16, A 17, A 18, A 19, A 20, A 21, A 22, A 23, A 24, A 25)) (hM : tw_M n m h S A) (hb : tb_partPieces q h = true) : wpX_partPieces post (S 0, S 1, S 2, S 3, A 1, A 2, A 3, A 4, A 5, A 6, A 7, A 8, A 9, A 10, A 11, A 12, A 13, A 14, A 15, A 16, A 17, A 18, A 19, A 20, A 21, A 22, A 23, A 24, A 25) := by
  unfold tb_partPieces at hb
  unfold wpX_partPieces
  refine ts_clearNear ?_ (S := S) (A := A) hM hb
  intro h1 S2 A3 hM hb
  intro am124_82 e_am124_82
  obtain ⟨h4, hM, hb⟩ := tw_wr_ok (g := (A3 24)) hM hb rfl rfl e_am124_82
  intro am125_84 e_am125_84
  obtain ⟨h5, hM, hb⟩ := tw_wr_ok (g := (A3 25)) hM hb rfl rfl e_am125_84
  refine Exists.intro 650 ?_
  exact ts_partPieces_22 hq _ _ _ _ S2 (tw_st (tw_st A3 24 am124_82) 25 am125_84) hM hb
def tb_lay (q : tw_H → Bool) (h : tw_H) : Bool := tw_rd h 0 1 (fun v1 => (if v1 = (0 : Int32) then tw_keep 19 h (fun h3 => tb_linkChildren (fun h4 => tb_measure (fun h7 => tb_layRow (fun h10 => tb_fillRow (fun h13 => tb_partPieces (fun h16 => tw_wr h16 0 1 (1 : Int32) (fun h19 => tw_keep 42707 h19 (fun h20 => q h20))) h13) h10) h7) h4) h3) else q h))
theorem ts_lay {n m : Int32} {post : St2 → Prop} {q : tw_H → Bool} {h : tw_H} {S : Nat → Int32} {A : Nat → Nat → Int32} (hq : ∀ (h : tw_H) (S : Nat → Int32) (A : Nat → Nat → Int32), tw_M n m h S A → q h = true → post (S 0, S 1, S 2, S 3, A 1, A 2, A 3, A 4, A 5, A 6, A 7, A 8, A 9, A 10, A 11, A 12, A 13, A 14, A 15, A 16, A 17, A 18, A 19, A 20, A 21, A 22, A 23, A 24, A 25)) (hM : tw_M n m h S A) (hb : tb_lay q h = true) : wpX_lay post (S 0, S 1, S 2, S 3, A 1, A 2, A 3, A 4, A 5, A 6, A 7, A 8, A 9, A 10, A 11, A 12, A 13, A 14, A 15, A 16, A 17, A 18, A 19, A 20, A 21, A 22, A 23, A 24, A 25) := by
  unfold tb_lay at hb
  unfold wpX_lay
  replace hb := tw_rS_ok hM hb (by decide) rfl
  refine And.intro (fun hc2 => ?_) (fun hc2 => ?_)
  · replace hb := tw_bt hc2 hb
    obtain ⟨h3, hM, hb⟩ := tw_keep_ok hM hb
    refine ts_linkChildren ?_ (S := S) (A := A) hM hb
    intro h4 S5 A6 hM hb
    refine ts_measure ?_ (S := S5) (A := A6) hM hb
    intro h7 S8 A9 hM hb
    refine ts_layRow ?_ (S := S8) (A := A9) hM hb
    intro h10 S11 A12 hM hb
    refine ts_fillRow ?_ (S := S11) (A := A12) hM hb
    intro h13 S14 A15 hM hb
    refine ts_partPieces ?_ (S := S14) (A := A15) hM hb
    intro h16 S17 A18 hM hb
    obtain ⟨h19, hM, hb⟩ := tw_wS_ok hM hb
    obtain ⟨h20, hM, hb⟩ := tw_keep_ok hM hb
    exact hq _ (upd S17 1 (1 : Int32)) A18 hM hb
  · replace hb := tw_bf hc2 hb
    exact hq _ S A hM hb
end
section
def tb_raise (q : tw_H → Bool) (p0 : Int32) (p1 : Int32) (p2v : tw_V) (h : tw_H) : Bool := (tw_in p0 64 && tw_rL h 13 (p0).toNatClampNeg (fun w2 => tw_wL h 13 (p0).toNatClampNeg (tw_add w2 (tw_mul p1 p2v)) (fun h3 => tw_rL h3 15 (p0).toNatClampNeg (fun w4 => tw_wL h3 15 (p0).toNatClampNeg (tw_add w4 p2v) (fun h5 => q h5)))))
theorem ts_raise {n m : Int32} {post : St2 → Prop} {q : tw_H → Bool} {p0 : Int32} {p1 : Int32} {p2 : Int32} {p2v : tw_V} {h : tw_H} {S : Nat → Int32} {A : Nat → Nat → Int32} (hq : ∀ (h : tw_H) (S : Nat → Int32) (A : Nat → Nat → Int32), tw_M n m h S A → q h = true → post (S 0, S 1, S 2, S 3, A 1, A 2, A 3, A 4, A 5, A 6, A 7, A 8, A 9, A 10, A 11, A 12, A 13, A 14, A 15, A 16, A 17, A 18, A 19, A 20, A 21, A 22, A 23, A 24, A 25)) (hx_p2 : p2 = tw_ev n m p2v) (hM : tw_M n m h S A) (hb : tb_raise q p0 p1 p2v h = true) : wpX_raise post (S 0, S 1, S 2, S 3, A 1, A 2, A 3, A 4, A 5, A 6, A 7, A 8, A 9, A 10, A 11, A 12, A 13, A 14, A 15, A 16, A 17, A 18, A 19, A 20, A 21, A 22, A 23, A 24, A 25) p0 p1 p2 := by
  unfold tb_raise at hb
  unfold wpX_raise
  have hi1 := (tw_in_ok hb).1
  replace hb := (tw_in_ok hb).2
  refine And.intro hi1 ?_
  refine And.intro hi1 ?_
  obtain ⟨w2, ew2, hb⟩ := tw_rL_ok (f := (A 13)) hM hb rfl rfl
  intro a13_3 e_a13_3
  obtain ⟨h3, hM, hb⟩ := tw_wL_ok (g := (A 13)) hM hb rfl rfl e_a13_3 (tw_evA ew2 (tw_evM hx_p2))
  refine And.intro hi1 ?_
  refine And.intro hi1 ?_
  intro a14_6 e_a14_6
  replace hM := tw_stU (i := 14) (f := a14_6) hM rfl
  refine And.intro hi1 ?_
  refine And.intro hi1 ?_
  obtain ⟨w4, ew4, hb⟩ := tw_rL_ok (f := (A 15)) hM hb rfl rfl
  intro a15_9 e_a15_9
  obtain ⟨h5, hM, hb⟩ := tw_wL_ok (g := (A 15)) hM hb rfl rfl e_a15_9 (tw_evA ew4 hx_p2)
  exact hq _ S (tw_st (tw_st (tw_st A 13 a13_3) 14 a14_6) 15 a15_9) hM hb
theorem tw_ct {c a b : Bool} (hc : c = true) (hb : (bif c then a else b) = true) : a = true := by
  rw [hc] at hb
  exact hb
theorem tw_cf {c a b : Bool} (hc : c = false) (hb : (bif c then a else b) = true) : b = true := by
  rw [hc] at hb
  exact hb
def tw_z (v : tw_V) : Bool := match v with
  | (c, none) => decide (c = 0)
  | _ => false
theorem tw_z_ok {n m : Int32} {v : tw_V} (h : tw_z v = true) : tw_ev n m v = 0 := by
  obtain ⟨c, _ | ⟨a, b⟩⟩ := v
  · exact of_decide_eq_true h
  · exact absurd h Bool.false_ne_true
theorem ts_raise0 {n m : Int32} {q : tw_H → Bool} {p0 p1 : Int32} {v : tw_V} {h : tw_H} {S : Nat → Int32} {A : Nat → Nat → Int32} (hM : tw_M n m h S A) (hv : tw_ev n m v = 0) (hb : tb_raise q p0 p1 v h = true) : ∃ h' : tw_H, tw_M n m h' S A ∧ q h' = true := by
  unfold tb_raise at hb
  replace hb := (tw_in_ok hb).2
  obtain ⟨w2, e2, hb⟩ := tw_rL_ok (f := A 13) hM hb rfl rfl
  have t2 := tw_evA e2 (tw_evM (x := p1) hv.symm)
  obtain ⟨h3, hM, hb⟩ := tw_wL_same hM hb rfl (by rw [← t2]; simp)
  obtain ⟨w4, e4, hb⟩ := tw_rL_ok (f := A 15) hM hb rfl rfl
  have t4 := tw_evA e4 hv.symm
  exact tw_wL_same hM hb rfl (by rw [← t4]; simp)
def tb_passDown_5 (q : tw_H → Bool) (x1 : Int32) : Nat → Int32 → Int32 → tw_H → Bool
  | 0 => fun _ _ _ => false
  | kk + 1 => fun x2 x3 h => (if x3 ≤ (0 : Int32) then q h else tw_f (((32 : Int32) + x1) >>> (x3 &&& (31 : Int32))) (fun x4 => (tw_in x4 64 && tw_rL h 15 (x4).toNatClampNeg (fun w => tw_f (x2 / (2 : Int32)) (fun y2 => tw_f (x3 + (-(1 : Int32))) (fun y3 => (bif tw_z w then tb_passDown_5 q x1 kk y2 y3 h else tw_f ((2 : Int32) * x4) (fun k1 => tb_raise (fun h1 => tw_rL h1 15 (x4).toNatClampNeg (fun w1 => tw_f (((2 : Int32) * x4) + (1 : Int32)) (fun k2 => tb_raise (fun h2 => tw_wr h2 15 (x4).toNatClampNeg (0 : Int32) (fun h3 => tb_passDown_5 q x1 kk y2 y3 h3)) k2 x2 w1 h1))) k1 x2 w h))))))))
theorem ts_passDown_5 {n m : Int32} {post : St2 → Prop} {q : tw_H → Bool} {x1 : Int32} (hq : ∀ (h : tw_H) (S : Nat → Int32) (A : Nat → Nat → Int32), tw_M n m h S A → q h = true → post (S 0, S 1, S 2, S 3, A 1, A 2, A 3, A 4, A 5, A 6, A 7, A 8, A 9, A 10, A 11, A 12, A 13, A 14, A 15, A 16, A 17, A 18, A 19, A 20, A 21, A 22, A 23, A 24, A 25)) : ∀ (kk : Nat) (x2 x3 : Int32) (h : tw_H) (S : Nat → Int32) (A : Nat → Nat → Int32), tw_M n m h S A → tb_passDown_5 q x1 kk x2 x3 h = true → wX_passDown_5 post x1 kk x2 x3 (S 0) (S 1) (S 2) (S 3) (A 1) (A 2) (A 3) (A 4) (A 5) (A 6) (A 7) (A 8) (A 9) (A 10) (A 11) (A 12) (A 13) (A 14) (A 15) (A 16) (A 17) (A 18) (A 19) (A 20) (A 21) (A 22) (A 23) (A 24) (A 25) := by
  intro kk
  induction kk with
  | zero => intro x2 x3 h S A hM hb; exact (Bool.false_ne_true hb).elim
  | succ kk ih =>
    intro x2 x3 h S A hM hb
    unfold tb_passDown_5 at hb
    unfold wX_passDown_5
    refine And.intro (fun hc => ?_) (fun hc => ?_)
    · exact hq _ S A hM (tw_bt hc hb)
    · replace hb := tw_bf hc hb
      intro x4 e4
      replace hb := tw_f_ok hb e4
      have hi := (tw_in_ok hb).1
      replace hb := (tw_in_ok hb).2
      refine And.intro hi ?_
      obtain ⟨w, ew, hb⟩ := tw_rL_ok (f := (A 15)) hM hb rfl rfl
      replace hb := tw_f_ok hb rfl
      replace hb := tw_f_ok hb rfl
      cases hz : tw_z w
      · replace hb := tw_cf hz hb
        replace hb := tw_f_ok hb rfl
        refine And.intro (fun h0 => ?_) (fun h0 => ?_)
        · obtain ⟨h1, hM, hb⟩ := ts_raise0 hM (ew.symm.trans h0) hb
          obtain ⟨w1, ew1, hb⟩ := tw_rL_ok (f := (A 15)) hM hb rfl rfl
          replace hb := tw_f_ok hb rfl
          obtain ⟨h2, hM, hb⟩ := ts_raise0 hM (ew1.symm.trans h0) hb
          obtain ⟨h3, hM, hb⟩ := tw_wr_same hM hb rfl h0
          refine And.intro (by decide) ?_
          intro y2 ey2 y3 ey3
          subst ey2
          subst ey3
          exact ih _ _ _ S A hM hb
        · refine And.intro hi ?_
          refine ts_raise ?_ ew (S := S) (A := A) hM hb
          intro h1 S1 A1 hM hb
          obtain ⟨w1, ew1, hb⟩ := tw_rL_ok (f := (A1 15)) hM hb rfl rfl
          replace hb := tw_f_ok hb rfl
          refine And.intro hi ?_
          refine ts_raise ?_ ew1 (S := S1) (A := A1) hM hb
          intro h2 S2 A2 hM hb
          refine And.intro hi ?_
          intro a15 e15
          obtain ⟨h3, hM, hb⟩ := tw_wr_ok (g := (A2 15)) hM hb rfl rfl e15
          refine And.intro (by decide) ?_
          intro y2 ey2 y3 ey3
          subst ey2
          subst ey3
          exact ih _ _ _ S2 (tw_st A2 15 a15) hM hb
      · replace hb := tw_ct hz hb
        refine br_t (ew.trans (tw_z_ok hz)) ?_
        refine And.intro (by decide) ?_
        intro y2 ey2 y3 ey3
        subst ey2
        subst ey3
        exact ih _ _ _ S A hM hb
def tb_passDown (q : tw_H → Bool) (p0 : Int32) (h : tw_H) : Bool := tb_passDown_5 q p0 650 (16 : Int32) (5 : Int32) h
theorem ts_passDown {n m : Int32} {post : St2 → Prop} {q : tw_H → Bool} {p0 : Int32} {h : tw_H} {S : Nat → Int32} {A : Nat → Nat → Int32} (hq : ∀ (h : tw_H) (S : Nat → Int32) (A : Nat → Nat → Int32), tw_M n m h S A → q h = true → post (S 0, S 1, S 2, S 3, A 1, A 2, A 3, A 4, A 5, A 6, A 7, A 8, A 9, A 10, A 11, A 12, A 13, A 14, A 15, A 16, A 17, A 18, A 19, A 20, A 21, A 22, A 23, A 24, A 25)) (hM : tw_M n m h S A) (hb : tb_passDown q p0 h = true) : wpX_passDown post (S 0, S 1, S 2, S 3, A 1, A 2, A 3, A 4, A 5, A 6, A 7, A 8, A 9, A 10, A 11, A 12, A 13, A 14, A 15, A 16, A 17, A 18, A 19, A 20, A 21, A 22, A 23, A 24, A 25) p0 := by
  unfold tb_passDown at hb
  unfold wpX_passDown
  refine Exists.intro 650 ?_
  exact ts_passDown_5 hq _ _ _ _ S A hM hb
def tb_save_6 (q : tw_H → Bool) : Nat → Int32 → tw_H → Bool
  | 0 => fun _ _ => false
  | kk + 1 => fun x1 h => tw_rd h 0 0 (fun v1 => (if v1 ≤ x1 then tw_wr h 0 1 (0 : Int32) (fun h3 => q h3) else (tw_in x1 24 && tw_rd h 10 (x1).toNatClampNeg (fun x2_83 => tb_passDown (fun h5 => (tw_in ((32 : Int32) + x2_83) 64 && tw_rL h5 13 (((32 : Int32) + x2_83)).toNatClampNeg (fun w9 => tw_wL h5 4 (x1).toNatClampNeg w9 (fun h10 => tw_f (x1 + (1 : Int32)) (fun x1_167 => tb_save_6 q kk x1_167 h10))))) x2_83 h))))
theorem ts_save_6 {n m : Int32} {post : St2 → Prop} {q : tw_H → Bool} (hq : ∀ (h : tw_H) (S : Nat → Int32) (A : Nat → Nat → Int32), tw_M n m h S A → q h = true → post (S 0, S 1, S 2, S 3, A 1, A 2, A 3, A 4, A 5, A 6, A 7, A 8, A 9, A 10, A 11, A 12, A 13, A 14, A 15, A 16, A 17, A 18, A 19, A 20, A 21, A 22, A 23, A 24, A 25)) : ∀ (kk : Nat) (x1 : Int32) (h : tw_H) (S : Nat → Int32) (A : Nat → Nat → Int32), tw_M n m h S A → tb_save_6 q kk x1 h = true → wX_save_6 post kk x1 (S 0) (S 1) (S 2) (S 3) (A 1) (A 2) (A 3) (A 4) (A 5) (A 6) (A 7) (A 8) (A 9) (A 10) (A 11) (A 12) (A 13) (A 14) (A 15) (A 16) (A 17) (A 18) (A 19) (A 20) (A 21) (A 22) (A 23) (A 24) (A 25) := by
  intro kk
  induction kk with
  | zero => intro x1 h S A hM hb; exact (Bool.false_ne_true hb).elim
  | succ kk ih =>
    intro x1 h S A hM hb
    unfold tb_save_6 at hb
    unfold wX_save_6
    replace hb := tw_rS_ok hM hb (by decide) rfl
    refine And.intro (fun hc2 => ?_) (fun hc2 => ?_)
    · replace hb := tw_bt hc2 hb
      obtain ⟨h3, hM, hb⟩ := tw_wS_ok hM hb
      exact hq _ (upd S 1 (0 : Int32)) A hM hb
    · replace hb := tw_bf hc2 hb
      have hi4 := (tw_in_ok hb).1
      replace hb := (tw_in_ok hb).2
      refine And.intro hi4 ?_
      intro x2_83 e_x2_83
      replace hb := tw_rd_ok (f := (A 10)) hM hb rfl rfl e_x2_83
      refine ts_passDown ?_ (S := S) (A := A) hM hb
      intro h5 S6 A7 hM hb
      have hi8 := (tw_in_ok hb).1
      replace hb := (tw_in_ok hb).2
      refine And.intro hi8 ?_
      refine And.intro hi4 ?_
      obtain ⟨w9, ew9, hb⟩ := tw_rL_ok (f := (A7 13)) hM hb rfl rfl
      intro am234_166 e_am234_166
      obtain ⟨h10, hM, hb⟩ := tw_wL_ok (g := (A7 4)) hM hb rfl rfl e_am234_166 ew9
      intro x1_167 e_x1_167
      replace hb := tw_f_ok hb e_x1_167
      exact ih _ _ S6 (tw_st A7 4 am234_166) hM hb
def tb_save (q : tw_H → Bool) (h : tw_H) : Bool := tb_lay (fun h1 => tb_save_6 q 650 (0 : Int32) h1) h
theorem ts_save {n m : Int32} {post : St2 → Prop} {q : tw_H → Bool} {h : tw_H} {S : Nat → Int32} {A : Nat → Nat → Int32} (hq : ∀ (h : tw_H) (S : Nat → Int32) (A : Nat → Nat → Int32), tw_M n m h S A → q h = true → post (S 0, S 1, S 2, S 3, A 1, A 2, A 3, A 4, A 5, A 6, A 7, A 8, A 9, A 10, A 11, A 12, A 13, A 14, A 15, A 16, A 17, A 18, A 19, A 20, A 21, A 22, A 23, A 24, A 25)) (hM : tw_M n m h S A) (hb : tb_save q h = true) : wpX_save post (S 0, S 1, S 2, S 3, A 1, A 2, A 3, A 4, A 5, A 6, A 7, A 8, A 9, A 10, A 11, A 12, A 13, A 14, A 15, A 16, A 17, A 18, A 19, A 20, A 21, A 22, A 23, A 24, A 25) := by
  unfold tb_save at hb
  unfold wpX_save
  refine ts_lay ?_ (S := S) (A := A) hM hb
  intro h1 S2 A3 hM hb
  refine Exists.intro 650 ?_
  exact ts_save_6 hq _ _ _ S2 A3 hM hb
def tb_grow (q : Int32 → tw_H → Bool) (p0 : Int32) (h : tw_H) : Bool := tb_bad (fun r_1 => (if r_1 = (0 : Int32) then tw_rd h 0 0 (fun v2 => (if v2 = (24 : Int32) then tw_f (-(2000000 : Int32)) (fun y4 => q y4 h) else tb_save (fun h5 => tw_rd h5 0 0 (fun v8 => (tw_in v8 24 && tw_wr h5 1 (v8).toNatClampNeg p0 (fun h10 => tw_wL h10 4 (v8).toNatClampNeg ((0 : Int32), none) (fun h11 => tw_f (v8 + (1 : Int32)) (fun f_88 => tw_f (f_88 - (1 : Int32)) (fun y12 => tw_wr h11 0 0 f_88 (fun h13 => q y12 h13)))))))) h)) else tw_f (-(1000000 : Int32)) (fun y14 => q y14 h))) p0 h
theorem ts_grow {n m : Int32} {post : Int32 → St2 → Prop} {q : Int32 → tw_H → Bool} {p0 : Int32} {h : tw_H} {S : Nat → Int32} {A : Nat → Nat → Int32} (hq : ∀ (r : Int32) (h : tw_H) (S : Nat → Int32) (A : Nat → Nat → Int32), tw_M n m h S A → q r h = true → post r (S 0, S 1, S 2, S 3, A 1, A 2, A 3, A 4, A 5, A 6, A 7, A 8, A 9, A 10, A 11, A 12, A 13, A 14, A 15, A 16, A 17, A 18, A 19, A 20, A 21, A 22, A 23, A 24, A 25)) (hM : tw_M n m h S A) (hb : tb_grow q p0 h = true) : wpX_grow post (S 0, S 1, S 2, S 3, A 1, A 2, A 3, A 4, A 5, A 6, A 7, A 8, A 9, A 10, A 11, A 12, A 13, A 14, A 15, A 16, A 17, A 18, A 19, A 20, A 21, A 22, A 23, A 24, A 25) p0 := by
  unfold tb_grow at hb
  unfold wpX_grow
  refine ts_bad ?_ (S := S) (A := A) hM hb
  intro r_1 hb
  refine And.intro (fun hc1 => ?_) (fun hc1 => ?_)
  · replace hb := tw_bt hc1 hb
    replace hb := tw_rS_ok hM hb (by decide) rfl
    refine And.intro (fun hc3 => ?_) (fun hc3 => ?_)
    · replace hb := tw_bt hc3 hb
      replace hb := tw_f_ok hb rfl
      exact hq _ _ S A hM hb
    · replace hb := tw_bf hc3 hb
      refine ts_save ?_ (S := S) (A := A) hM hb
      intro h5 S6 A7 hM hb
      replace hb := tw_rS_ok hM hb (by decide) rfl
      have hi9 := (tw_in_ok hb).1
      replace hb := (tw_in_ok hb).2
      refine And.intro hi9 ?_
      intro am241_85 e_am241_85
      obtain ⟨h10, hM, hb⟩ := tw_wr_ok (g := (A7 1)) hM hb rfl rfl e_am241_85
      refine And.intro hi9 ?_
      intro am244_87 e_am244_87
      obtain ⟨h11, hM, hb⟩ := tw_wL_ok (g := (A7 4)) hM hb rfl rfl e_am244_87 (tw_evC _ _ _)
      intro f_88 e_f_88
      replace hb := tw_f_ok hb e_f_88
      replace hb := tw_f_ok hb rfl
      obtain ⟨h13, hM, hb⟩ := tw_wS_ok hM hb
      exact hq _ _ (upd S6 0 f_88) (tw_st (tw_st A7 1 am241_85) 4 am244_87) hM hb
  · replace hb := tw_bf hc1 hb
    replace hb := tw_f_ok hb rfl
    exact hq _ _ S A hM hb
end
section
def tb_joinUp_9 (q : tw_H → Bool) : Nat → Int32 → Int32 → tw_H → Bool
  | 0 => fun _ _ _ => false
  | kk + 1 => fun x2 x3 h => (if (5 : Int32) ≤ x3 then q h else (tw_in x2 64 && tw_rL h 15 (x2).toNatClampNeg (fun w3 => tw_f ((32 : Int32) >>> (((4 : Int32) - x3) &&& (31 : Int32))) (fun x5_5 => tb_join (fun h4 => tw_rL h4 13 (x2).toNatClampNeg (fun w7 => tw_wL h4 13 (x2).toNatClampNeg (tw_add w7 (tw_mul x5_5 w3)) (fun h8 => tw_f (x2 >>> ((1 : Int32) &&& (31 : Int32))) (fun x2_92 => tw_f (x3 + (1 : Int32)) (fun x3_93 => tb_joinUp_9 q kk x2_92 x3_93 h8))))) x2 h))))
theorem ts_joinUp_9 {n m : Int32} {post : St2 → Prop} {q : tw_H → Bool} (hq : ∀ (h : tw_H) (S : Nat → Int32) (A : Nat → Nat → Int32), tw_M n m h S A → q h = true → post (S 0, S 1, S 2, S 3, A 1, A 2, A 3, A 4, A 5, A 6, A 7, A 8, A 9, A 10, A 11, A 12, A 13, A 14, A 15, A 16, A 17, A 18, A 19, A 20, A 21, A 22, A 23, A 24, A 25)) : ∀ (kk : Nat) (x2 x3 : Int32) (h : tw_H) (S : Nat → Int32) (A : Nat → Nat → Int32), tw_M n m h S A → tb_joinUp_9 q kk x2 x3 h = true → wX_joinUp_9 post kk x2 x3 (S 0) (S 1) (S 2) (S 3) (A 1) (A 2) (A 3) (A 4) (A 5) (A 6) (A 7) (A 8) (A 9) (A 10) (A 11) (A 12) (A 13) (A 14) (A 15) (A 16) (A 17) (A 18) (A 19) (A 20) (A 21) (A 22) (A 23) (A 24) (A 25) := by
  intro kk
  induction kk with
  | zero => intro x2 x3 h S A hM hb; exact (Bool.false_ne_true hb).elim
  | succ kk ih =>
    intro x2 x3 h S A hM hb
    unfold tb_joinUp_9 at hb
    unfold wX_joinUp_9
    refine And.intro (fun hc1 => ?_) (fun hc1 => ?_)
    · replace hb := tw_bt hc1 hb
      exact hq _ S A hM hb
    · replace hb := tw_bf hc1 hb
      have hi2 := (tw_in_ok hb).1
      replace hb := (tw_in_ok hb).2
      refine And.intro hi2 ?_
      obtain ⟨w3, ew3, hb⟩ := tw_rL_ok (f := (A 15)) hM hb rfl rfl
      intro x4_4 e_x4_4
      intro x5_5 e_x5_5
      replace hb := tw_f_ok hb e_x5_5
      refine ts_join ?_ (S := S) (A := A) hM hb
      intro h4 S5 A6 hM hb
      refine And.intro hi2 ?_
      refine And.intro hi2 ?_
      obtain ⟨w7, ew7, hb⟩ := tw_rL_ok (f := (A6 13)) hM hb rfl rfl
      intro am3213_88 e_am3213_88
      obtain ⟨h8, hM, hb⟩ := tw_wL_ok (g := (A6 13)) hM hb rfl rfl e_am3213_88 (tw_evA ew7 (tw_evM (e_x4_4.trans ew3)))
      refine And.intro hi2 ?_
      refine And.intro hi2 ?_
      intro am3214_91 e_am3214_91
      replace hM := tw_stU (i := 14) (f := am3214_91) hM rfl
      intro x2_92 e_x2_92
      replace hb := tw_f_ok hb e_x2_92
      intro x3_93 e_x3_93
      replace hb := tw_f_ok hb e_x3_93
      exact ih _ _ _ S5 (tw_st (tw_st A6 13 am3213_88) 14 am3214_91) hM hb
def tb_joinUp (q : tw_H → Bool) (p0 : Int32) (h : tw_H) : Bool := tw_f (((32 : Int32) + p0) >>> ((1 : Int32) &&& (31 : Int32))) (fun x2_1 => tb_joinUp_9 q 650 x2_1 (0 : Int32) h)
theorem ts_joinUp {n m : Int32} {post : St2 → Prop} {q : tw_H → Bool} {p0 : Int32} {h : tw_H} {S : Nat → Int32} {A : Nat → Nat → Int32} (hq : ∀ (h : tw_H) (S : Nat → Int32) (A : Nat → Nat → Int32), tw_M n m h S A → q h = true → post (S 0, S 1, S 2, S 3, A 1, A 2, A 3, A 4, A 5, A 6, A 7, A 8, A 9, A 10, A 11, A 12, A 13, A 14, A 15, A 16, A 17, A 18, A 19, A 20, A 21, A 22, A 23, A 24, A 25)) (hM : tw_M n m h S A) (hb : tb_joinUp q p0 h = true) : wpX_joinUp post (S 0, S 1, S 2, S 3, A 1, A 2, A 3, A 4, A 5, A 6, A 7, A 8, A 9, A 10, A 11, A 12, A 13, A 14, A 15, A 16, A 17, A 18, A 19, A 20, A 21, A 22, A 23, A 24, A 25) p0 := by
  unfold tb_joinUp at hb
  unfold wpX_joinUp
  intro x2_1 e_x2_1
  replace hb := tw_f_ok hb e_x2_1
  refine Exists.intro 650 ?_
  exact ts_joinUp_9 hq _ _ _ _ S A hM hb
def tb_addRow_108 (q : tw_H → Bool) (x1 : Int32) (x2 : Int32) (h : tw_H) : Bool := tb_joinUp (fun h1 => tb_joinUp (fun h4 => q h4) x2 h1) x1 h
theorem ts_addRow_108 {n m : Int32} {post : St2 → Prop} {q : tw_H → Bool} {x1 : Int32} {x2 : Int32} {h : tw_H} {S : Nat → Int32} {A : Nat → Nat → Int32} (hq : ∀ (h : tw_H) (S : Nat → Int32) (A : Nat → Nat → Int32), tw_M n m h S A → q h = true → post (S 0, S 1, S 2, S 3, A 1, A 2, A 3, A 4, A 5, A 6, A 7, A 8, A 9, A 10, A 11, A 12, A 13, A 14, A 15, A 16, A 17, A 18, A 19, A 20, A 21, A 22, A 23, A 24, A 25)) (hM : tw_M n m h S A) (hb : tb_addRow_108 q x1 x2 h = true) : wX_addRow_108 post x1 x2 (S 0) (S 1) (S 2) (S 3) (A 1) (A 2) (A 3) (A 4) (A 5) (A 6) (A 7) (A 8) (A 9) (A 10) (A 11) (A 12) (A 13) (A 14) (A 15) (A 16) (A 17) (A 18) (A 19) (A 20) (A 21) (A 22) (A 23) (A 24) (A 25) := by
  unfold tb_addRow_108 at hb
  unfold wX_addRow_108
  refine ts_joinUp ?_ (S := S) (A := A) hM hb
  intro h1 S2 A3 hM hb
  refine ts_joinUp ?_ (S := S2) (A := A3) hM hb
  intro h4 S5 A6 hM hb
  exact hq _ S5 A6 hM hb
def tb_addRow_84 (q : tw_H → Bool) (j30b : Int32 → Int32 → Int32 → Int32 → tw_H → Bool) (x1 : Int32) (x2 : Int32) (x3v : tw_V) (x4 : Int32) (x5 : Int32) (x6 : Int32) (x7 : Int32) (h : tw_H) : Bool := tw_f (x4 >>> ((1 : Int32) &&& (31 : Int32))) (fun x4_327 => tw_f (x5 >>> ((1 : Int32) &&& (31 : Int32))) (fun x5_328 => tw_f (x6 * (2 : Int32)) (fun x6_329 => tw_f (x7 + (1 : Int32)) (fun x7_330 => j30b x4_327 x5_328 x6_329 x7_330 h))))
theorem ts_addRow_84 {n m : Int32} {post : St2 → Prop} {q : tw_H → Bool} {J30 : Int32 → Int32 → Int32 → Int32 → Int32 → Int32 → Int32 → Int32 → (Nat → Int32) → (Nat → Int32) → (Nat → Int32) → (Nat → Int32) → (Nat → Int32) → (Nat → Int32) → (Nat → Int32) → (Nat → Int32) → (Nat → Int32) → (Nat → Int32) → (Nat → Int32) → (Nat → Int32) → (Nat → Int32) → (Nat → Int32) → (Nat → Int32) → (Nat → Int32) → (Nat → Int32) → (Nat → Int32) → (Nat → Int32) → (Nat → Int32) → (Nat → Int32) → (Nat → Int32) → (Nat → Int32) → (Nat → Int32) → (Nat → Int32) → Prop} {j30b : Int32 → Int32 → Int32 → Int32 → tw_H → Bool} {x1 : Int32} {x2 : Int32} {x3 : Int32} {x3v : tw_V} {x4 : Int32} {x5 : Int32} {x6 : Int32} {x7 : Int32} {h : tw_H} {S : Nat → Int32} {A : Nat → Nat → Int32} (hq : ∀ (h : tw_H) (S : Nat → Int32) (A : Nat → Nat → Int32), tw_M n m h S A → q h = true → post (S 0, S 1, S 2, S 3, A 1, A 2, A 3, A 4, A 5, A 6, A 7, A 8, A 9, A 10, A 11, A 12, A 13, A 14, A 15, A 16, A 17, A 18, A 19, A 20, A 21, A 22, A 23, A 24, A 25)) (hJ30 : ∀ (x1 x2 x3 x4 : Int32) (h : tw_H) (S1 : Nat → Int32) (A1 : Nat → Nat → Int32), tw_M n m h S1 A1 → j30b x1 x2 x3 x4 h = true → J30 x1 x2 x3 x4 (S1 0) (S1 1) (S1 2) (S1 3) (A1 1) (A1 2) (A1 3) (A1 4) (A1 5) (A1 6) (A1 7) (A1 8) (A1 9) (A1 10) (A1 11) (A1 12) (A1 13) (A1 14) (A1 15) (A1 16) (A1 17) (A1 18) (A1 19) (A1 20) (A1 21) (A1 22) (A1 23) (A1 24) (A1 25)) (hx_x3 : x3 = tw_ev n m x3v) (hM : tw_M n m h S A) (hb : tb_addRow_84 q j30b x1 x2 x3v x4 x5 x6 x7 h = true) : wX_addRow_84 post J30 x1 x2 x3 x4 x5 x6 x7 (S 0) (S 1) (S 2) (S 3) (A 1) (A 2) (A 3) (A 4) (A 5) (A 6) (A 7) (A 8) (A 9) (A 10) (A 11) (A 12) (A 13) (A 14) (A 15) (A 16) (A 17) (A 18) (A 19) (A 20) (A 21) (A 22) (A 23) (A 24) (A 25) := by
  unfold tb_addRow_84 at hb
  unfold wX_addRow_84
  intro x4_327 e_x4_327
  replace hb := tw_f_ok hb e_x4_327
  intro x5_328 e_x5_328
  replace hb := tw_f_ok hb e_x5_328
  intro x6_329 e_x6_329
  replace hb := tw_f_ok hb e_x6_329
  intro x7_330 e_x7_330
  replace hb := tw_f_ok hb e_x7_330
  exact hJ30 _ _ _ _ _ S A hM hb
def tb_addRow_64 (q : tw_H → Bool) (j30b : Int32 → Int32 → Int32 → Int32 → tw_H → Bool) (x1 : Int32) (x2 : Int32) (x3v : tw_V) (x4 : Int32) (x5 : Int32) (x6 : Int32) (x7 : Int32) (h : tw_H) : Bool := (if (x5 &&& (1 : Int32)) = (1 : Int32) then tw_f (x5 + (-(1 : Int32))) (fun x5_331 => tb_raise (fun h2 => tb_addRow_84 q j30b x1 x2 x3v x4 x5_331 x6 x7 h2) x5_331 x6 x3v h) else tb_addRow_84 q j30b x1 x2 x3v x4 x5 x6 x7 h)
theorem ts_addRow_64 {n m : Int32} {post : St2 → Prop} {q : tw_H → Bool} {J30 : Int32 → Int32 → Int32 → Int32 → Int32 → Int32 → Int32 → Int32 → (Nat → Int32) → (Nat → Int32) → (Nat → Int32) → (Nat → Int32) → (Nat → Int32) → (Nat → Int32) → (Nat → Int32) → (Nat → Int32) → (Nat → Int32) → (Nat → Int32) → (Nat → Int32) → (Nat → Int32) → (Nat → Int32) → (Nat → Int32) → (Nat → Int32) → (Nat → Int32) → (Nat → Int32) → (Nat → Int32) → (Nat → Int32) → (Nat → Int32) → (Nat → Int32) → (Nat → Int32) → (Nat → Int32) → (Nat → Int32) → (Nat → Int32) → Prop} {j30b : Int32 → Int32 → Int32 → Int32 → tw_H → Bool} {x1 : Int32} {x2 : Int32} {x3 : Int32} {x3v : tw_V} {x4 : Int32} {x5 : Int32} {x6 : Int32} {x7 : Int32} {h : tw_H} {S : Nat → Int32} {A : Nat → Nat → Int32} (hq : ∀ (h : tw_H) (S : Nat → Int32) (A : Nat → Nat → Int32), tw_M n m h S A → q h = true → post (S 0, S 1, S 2, S 3, A 1, A 2, A 3, A 4, A 5, A 6, A 7, A 8, A 9, A 10, A 11, A 12, A 13, A 14, A 15, A 16, A 17, A 18, A 19, A 20, A 21, A 22, A 23, A 24, A 25)) (hJ30 : ∀ (x1 x2 x3 x4 : Int32) (h : tw_H) (S1 : Nat → Int32) (A1 : Nat → Nat → Int32), tw_M n m h S1 A1 → j30b x1 x2 x3 x4 h = true → J30 x1 x2 x3 x4 (S1 0) (S1 1) (S1 2) (S1 3) (A1 1) (A1 2) (A1 3) (A1 4) (A1 5) (A1 6) (A1 7) (A1 8) (A1 9) (A1 10) (A1 11) (A1 12) (A1 13) (A1 14) (A1 15) (A1 16) (A1 17) (A1 18) (A1 19) (A1 20) (A1 21) (A1 22) (A1 23) (A1 24) (A1 25)) (hx_x3 : x3 = tw_ev n m x3v) (hM : tw_M n m h S A) (hb : tb_addRow_64 q j30b x1 x2 x3v x4 x5 x6 x7 h = true) : wX_addRow_64 post J30 x1 x2 x3 x4 x5 x6 x7 (S 0) (S 1) (S 2) (S 3) (A 1) (A 2) (A 3) (A 4) (A 5) (A 6) (A 7) (A 8) (A 9) (A 10) (A 11) (A 12) (A 13) (A 14) (A 15) (A 16) (A 17) (A 18) (A 19) (A 20) (A 21) (A 22) (A 23) (A 24) (A 25) := by
  unfold tb_addRow_64 at hb
  unfold wX_addRow_64
  refine And.intro (fun hc1 => ?_) (fun hc1 => ?_)
  · replace hb := tw_bt hc1 hb
    intro x5_331 e_x5_331
    replace hb := tw_f_ok hb e_x5_331
    refine ts_raise ?_ hx_x3 (S := S) (A := A) hM hb
    intro h2 S3 A4 hM hb
    exact ts_addRow_84 hq hJ30 hx_x3 (S := S3) (A := A4) hM hb
  · replace hb := tw_bf hc1 hb
    exact ts_addRow_84 hq hJ30 hx_x3 (S := S) (A := A) hM hb
def tb_addRow_30 (q : tw_H → Bool) (x1 : Int32) (x2 : Int32) (x3v : tw_V) : Nat → Int32 → Int32 → Int32 → Int32 → tw_H → Bool
  | 0 => fun _ _ _ _ _ => false
  | kk + 1 => fun x4 x5 x6 x7 h => (if (6 : Int32) ≤ x7 then tb_addRow_108 q x1 x2 h else (if x5 ≤ x4 then tb_addRow_108 q x1 x2 h else (if (x4 &&& (1 : Int32)) = (1 : Int32) then tb_raise (fun h4 => tw_f (x4 + (1 : Int32)) (fun x4_492 => tb_addRow_64 q (tb_addRow_30 q x1 x2 x3v kk) x1 x2 x3v x4_492 x5 x6 x7 h4)) x4 x6 x3v h else tb_addRow_64 q (tb_addRow_30 q x1 x2 x3v kk) x1 x2 x3v x4 x5 x6 x7 h)))
theorem ts_addRow_30 {n m : Int32} {post : St2 → Prop} {q : tw_H → Bool} {x1 : Int32} {x2 : Int32} {x3 : Int32} {x3v : tw_V} (hq : ∀ (h : tw_H) (S : Nat → Int32) (A : Nat → Nat → Int32), tw_M n m h S A → q h = true → post (S 0, S 1, S 2, S 3, A 1, A 2, A 3, A 4, A 5, A 6, A 7, A 8, A 9, A 10, A 11, A 12, A 13, A 14, A 15, A 16, A 17, A 18, A 19, A 20, A 21, A 22, A 23, A 24, A 25)) (hx_x3 : x3 = tw_ev n m x3v) : ∀ (kk : Nat) (x4 x5 x6 x7 : Int32) (h : tw_H) (S : Nat → Int32) (A : Nat → Nat → Int32), tw_M n m h S A → tb_addRow_30 q x1 x2 x3v kk x4 x5 x6 x7 h = true → wX_addRow_30 post x1 x2 x3 kk x4 x5 x6 x7 (S 0) (S 1) (S 2) (S 3) (A 1) (A 2) (A 3) (A 4) (A 5) (A 6) (A 7) (A 8) (A 9) (A 10) (A 11) (A 12) (A 13) (A 14) (A 15) (A 16) (A 17) (A 18) (A 19) (A 20) (A 21) (A 22) (A 23) (A 24) (A 25) := by
  intro kk
  induction kk with
  | zero => intro x4 x5 x6 x7 h S A hM hb; exact (Bool.false_ne_true hb).elim
  | succ kk ih =>
    intro x4 x5 x6 x7 h S A hM hb
    unfold tb_addRow_30 at hb
    unfold wX_addRow_30
    refine And.intro (fun hc1 => ?_) (fun hc1 => ?_)
    · replace hb := tw_bt hc1 hb
      exact ts_addRow_108 hq (S := S) (A := A) hM hb
    · replace hb := tw_bf hc1 hb
      refine And.intro (fun hc2 => ?_) (fun hc2 => ?_)
      · replace hb := tw_bt hc2 hb
        exact ts_addRow_108 hq (S := S) (A := A) hM hb
      · replace hb := tw_bf hc2 hb
        refine And.intro (fun hc3 => ?_) (fun hc3 => ?_)
        · replace hb := tw_bt hc3 hb
          refine ts_raise ?_ hx_x3 (S := S) (A := A) hM hb
          intro h4 S5 A6 hM hb
          intro x4_492 e_x4_492
          replace hb := tw_f_ok hb e_x4_492
          exact ts_addRow_64 hq ih hx_x3 (S := S5) (A := A6) hM hb
        · replace hb := tw_bf hc3 hb
          exact ts_addRow_64 hq ih hx_x3 (S := S) (A := A) hM hb
def tb_addRow (q : tw_H → Bool) (p0 : Int32) (p1 : Int32) (p2v : tw_V) (h : tw_H) : Bool := tb_passDown (fun h1 => tb_passDown (fun h4 => tw_f ((32 : Int32) + p0) (fun x4_161 => tw_f (((32 : Int32) + p1) + (1 : Int32)) (fun x5_162 => tb_addRow_30 q p0 p1 p2v 650 x4_161 x5_162 (1 : Int32) (0 : Int32) h4))) p1 h1) p0 h
theorem ts_addRow {n m : Int32} {post : St2 → Prop} {q : tw_H → Bool} {p0 : Int32} {p1 : Int32} {p2 : Int32} {p2v : tw_V} {h : tw_H} {S : Nat → Int32} {A : Nat → Nat → Int32} (hq : ∀ (h : tw_H) (S : Nat → Int32) (A : Nat → Nat → Int32), tw_M n m h S A → q h = true → post (S 0, S 1, S 2, S 3, A 1, A 2, A 3, A 4, A 5, A 6, A 7, A 8, A 9, A 10, A 11, A 12, A 13, A 14, A 15, A 16, A 17, A 18, A 19, A 20, A 21, A 22, A 23, A 24, A 25)) (hx_p2 : p2 = tw_ev n m p2v) (hM : tw_M n m h S A) (hb : tb_addRow q p0 p1 p2v h = true) : wpX_addRow post (S 0, S 1, S 2, S 3, A 1, A 2, A 3, A 4, A 5, A 6, A 7, A 8, A 9, A 10, A 11, A 12, A 13, A 14, A 15, A 16, A 17, A 18, A 19, A 20, A 21, A 22, A 23, A 24, A 25) p0 p1 p2 := by
  unfold tb_addRow at hb
  unfold wpX_addRow
  refine ts_passDown ?_ (S := S) (A := A) hM hb
  intro h1 S2 A3 hM hb
  refine ts_passDown ?_ (S := S2) (A := A3) hM hb
  intro h4 S5 A6 hM hb
  intro x4_161 e_x4_161
  replace hb := tw_f_ok hb e_x4_161
  intro x5_162 e_x5_162
  replace hb := tw_f_ok hb e_x5_162
  refine Exists.intro 650 ?_
  exact ts_addRow_30 hq hx_p2 _ _ _ _ _ _ S5 A6 hM hb
def tb_askRow_153 (q : tw_H → Bool) (j26b : Int32 → Int32 → Int32 → tw_H → Bool) (x3 : Int32) (x4 : Int32) (x5 : Int32) (h : tw_H) : Bool := tw_f (x3 >>> ((1 : Int32) &&& (31 : Int32))) (fun x3_167 => tw_f (x4 >>> ((1 : Int32) &&& (31 : Int32))) (fun x4_168 => tw_f (x5 + (1 : Int32)) (fun x5_169 => j26b x3_167 x4_168 x5_169 h)))
theorem ts_askRow_153 {n m : Int32} {post : St2 → Prop} {q : tw_H → Bool} {J26 : Int32 → Int32 → Int32 → Int32 → Int32 → Prop} {j26b : Int32 → Int32 → Int32 → tw_H → Bool} {x3 : Int32} {x4 : Int32} {x5 : Int32} {h : tw_H} {S : Nat → Int32} {A : Nat → Nat → Int32} (hq : ∀ (h : tw_H) (S : Nat → Int32) (A : Nat → Nat → Int32), tw_M n m h S A → q h = true → post (S 0, S 1, S 2, S 3, A 1, A 2, A 3, A 4, A 5, A 6, A 7, A 8, A 9, A 10, A 11, A 12, A 13, A 14, A 15, A 16, A 17, A 18, A 19, A 20, A 21, A 22, A 23, A 24, A 25)) (hJ26 : ∀ (x1 x2 x3 : Int32) (h : tw_H) (S1 : Nat → Int32), S1 0 = S 0 → S1 1 = S 1 → tw_M n m h S1 A → j26b x1 x2 x3 h = true → J26 x1 x2 x3 (S1 2) (S1 3)) (hM : tw_M n m h S A) (hb : tb_askRow_153 q j26b x3 x4 x5 h = true) : wX_askRow_153 post J26 x3 x4 x5 (S 0) (S 1) (S 2) (S 3) (A 1) (A 2) (A 3) (A 4) (A 5) (A 6) (A 7) (A 8) (A 9) (A 10) (A 11) (A 12) (A 13) (A 14) (A 15) (A 16) (A 17) (A 18) (A 19) (A 20) (A 21) (A 22) (A 23) (A 24) (A 25) := by
  unfold tb_askRow_153 at hb
  unfold wX_askRow_153
  intro x3_167 e_x3_167
  replace hb := tw_f_ok hb e_x3_167
  intro x4_168 e_x4_168
  replace hb := tw_f_ok hb e_x4_168
  intro x5_169 e_x5_169
  replace hb := tw_f_ok hb e_x5_169
  exact hJ26 _ _ _ _ S rfl rfl hM hb
def tb_askRow_150 (q : tw_H → Bool) (j26b : Int32 → Int32 → Int32 → tw_H → Bool) (x3 : Int32) (x4 : Int32) (x5 : Int32) (h : tw_H) : Bool := tb_askRow_153 q j26b x3 x4 x5 h
theorem ts_askRow_150 {n m : Int32} {post : St2 → Prop} {q : tw_H → Bool} {J26 : Int32 → Int32 → Int32 → Int32 → Int32 → Prop} {j26b : Int32 → Int32 → Int32 → tw_H → Bool} {x3 : Int32} {x4 : Int32} {x5 : Int32} {z0 : Int32} {h : tw_H} {S : Nat → Int32} {A : Nat → Nat → Int32} (hq : ∀ (h : tw_H) (S : Nat → Int32) (A : Nat → Nat → Int32), tw_M n m h S A → q h = true → post (S 0, S 1, S 2, S 3, A 1, A 2, A 3, A 4, A 5, A 6, A 7, A 8, A 9, A 10, A 11, A 12, A 13, A 14, A 15, A 16, A 17, A 18, A 19, A 20, A 21, A 22, A 23, A 24, A 25)) (hJ26 : ∀ (x1 x2 x3 : Int32) (h : tw_H) (S1 : Nat → Int32), S1 0 = S 0 → S1 1 = S 1 → tw_M n m h S1 A → j26b x1 x2 x3 h = true → J26 x1 x2 x3 (S1 2) (S1 3)) (hM : tw_M n m h S A) (hb : tb_askRow_150 q j26b x3 x4 x5 h = true) : wX_askRow_150 post J26 x3 x4 x5 z0 (S 0) (S 1) (S 2) (S 3) (A 1) (A 2) (A 3) (A 4) (A 5) (A 6) (A 7) (A 8) (A 9) (A 10) (A 11) (A 12) (A 13) (A 14) (A 15) (A 16) (A 17) (A 18) (A 19) (A 20) (A 21) (A 22) (A 23) (A 24) (A 25) := by
  unfold tb_askRow_150 at hb
  unfold wX_askRow_150
  replace hM := tw_wS3 (x := z0) hM
  exact ts_askRow_153 hq hJ26 (S := (upd S 3 z0)) (A := A) hM hb
def tb_askRow_94 (q : tw_H → Bool) (j26b : Int32 → Int32 → Int32 → tw_H → Bool) (x3 : Int32) (x4 : Int32) (x5 : Int32) (h : tw_H) : Bool := (if (x4 &&& (1 : Int32)) = (1 : Int32) then tw_f (x4 + (-(1 : Int32))) (fun x4_170 => (tw_in x4_170 64 && tw_rL h 0 2 (fun w3 => tw_rL h 13 (x4_170).toNatClampNeg (fun w4 => tw_wL h 0 2 (tw_add w3 w4) (fun h5 => tb_askRow_150 q j26b x3 x4_170 x5 h5))))) else tb_askRow_153 q j26b x3 x4 x5 h)
theorem ts_askRow_94 {n m : Int32} {post : St2 → Prop} {q : tw_H → Bool} {J26 : Int32 → Int32 → Int32 → Int32 → Int32 → Prop} {j26b : Int32 → Int32 → Int32 → tw_H → Bool} {x3 : Int32} {x4 : Int32} {x5 : Int32} {h : tw_H} {S : Nat → Int32} {A : Nat → Nat → Int32} (hq : ∀ (h : tw_H) (S : Nat → Int32) (A : Nat → Nat → Int32), tw_M n m h S A → q h = true → post (S 0, S 1, S 2, S 3, A 1, A 2, A 3, A 4, A 5, A 6, A 7, A 8, A 9, A 10, A 11, A 12, A 13, A 14, A 15, A 16, A 17, A 18, A 19, A 20, A 21, A 22, A 23, A 24, A 25)) (hJ26 : ∀ (x1 x2 x3 : Int32) (h : tw_H) (S1 : Nat → Int32), S1 0 = S 0 → S1 1 = S 1 → tw_M n m h S1 A → j26b x1 x2 x3 h = true → J26 x1 x2 x3 (S1 2) (S1 3)) (hM : tw_M n m h S A) (hb : tb_askRow_94 q j26b x3 x4 x5 h = true) : wX_askRow_94 post J26 x3 x4 x5 (S 0) (S 1) (S 2) (S 3) (A 1) (A 2) (A 3) (A 4) (A 5) (A 6) (A 7) (A 8) (A 9) (A 10) (A 11) (A 12) (A 13) (A 14) (A 15) (A 16) (A 17) (A 18) (A 19) (A 20) (A 21) (A 22) (A 23) (A 24) (A 25) := by
  unfold tb_askRow_94 at hb
  unfold wX_askRow_94
  refine And.intro (fun hc1 => ?_) (fun hc1 => ?_)
  · replace hb := tw_bt hc1 hb
    intro x4_170 e_x4_170
    replace hb := tw_f_ok hb e_x4_170
    have hi2 := (tw_in_ok hb).1
    replace hb := (tw_in_ok hb).2
    refine And.intro hi2 ?_
    obtain ⟨w3, ew3, hb⟩ := tw_rSL_ok hM hb (by decide)
    obtain ⟨w4, ew4, hb⟩ := tw_rL_ok (f := (A 13)) hM hb rfl rfl
    intro f_172 e_f_172
    refine And.intro hi2 ?_
    refine And.intro (fun hc => ?_) (fun hc => ?_)
    · obtain ⟨h5, hM, hb⟩ := tw_wSL_ok (x := f_172) hM hb (e_f_172.trans (tw_evA ew3 ew4))
      exact ts_askRow_150 hq hJ26 (S := (upd S 2 f_172)) (A := A) hM hb
    · refine And.intro hi2 ?_
      obtain ⟨h5, hM, hb⟩ := tw_wSL_ok (x := f_172) hM hb (e_f_172.trans (tw_evA ew3 ew4))
      exact ts_askRow_150 hq hJ26 (S := (upd S 2 f_172)) (A := A) hM hb
  · replace hb := tw_bf hc1 hb
    exact ts_askRow_153 hq hJ26 (S := S) (A := A) hM hb
def tb_askRow_88 (q : tw_H → Bool) (j26b : Int32 → Int32 → Int32 → tw_H → Bool) (x3 : Int32) (x4 : Int32) (x5 : Int32) (h : tw_H) : Bool := tw_f (x3 + (1 : Int32)) (fun x3_180 => tb_askRow_94 q j26b x3_180 x4 x5 h)
theorem ts_askRow_88 {n m : Int32} {post : St2 → Prop} {q : tw_H → Bool} {J26 : Int32 → Int32 → Int32 → Int32 → Int32 → Prop} {j26b : Int32 → Int32 → Int32 → tw_H → Bool} {x3 : Int32} {x4 : Int32} {x5 : Int32} {z0 : Int32} {h : tw_H} {S : Nat → Int32} {A : Nat → Nat → Int32} (hq : ∀ (h : tw_H) (S : Nat → Int32) (A : Nat → Nat → Int32), tw_M n m h S A → q h = true → post (S 0, S 1, S 2, S 3, A 1, A 2, A 3, A 4, A 5, A 6, A 7, A 8, A 9, A 10, A 11, A 12, A 13, A 14, A 15, A 16, A 17, A 18, A 19, A 20, A 21, A 22, A 23, A 24, A 25)) (hJ26 : ∀ (x1 x2 x3 : Int32) (h : tw_H) (S1 : Nat → Int32), S1 0 = S 0 → S1 1 = S 1 → tw_M n m h S1 A → j26b x1 x2 x3 h = true → J26 x1 x2 x3 (S1 2) (S1 3)) (hM : tw_M n m h S A) (hb : tb_askRow_88 q j26b x3 x4 x5 h = true) : wX_askRow_88 post J26 x3 x4 x5 z0 (S 0) (S 1) (S 2) (S 3) (A 1) (A 2) (A 3) (A 4) (A 5) (A 6) (A 7) (A 8) (A 9) (A 10) (A 11) (A 12) (A 13) (A 14) (A 15) (A 16) (A 17) (A 18) (A 19) (A 20) (A 21) (A 22) (A 23) (A 24) (A 25) := by
  unfold tb_askRow_88 at hb
  unfold wX_askRow_88
  intro x3_180 e_x3_180
  replace hb := tw_f_ok hb e_x3_180
  replace hM := tw_wS3 (x := z0) hM
  exact ts_askRow_94 hq hJ26 (S := (upd S 3 z0)) (A := A) hM hb
def tb_askRow_26 (q : tw_H → Bool) : Nat → Int32 → Int32 → Int32 → tw_H → Bool
  | 0 => fun _ _ _ _ => false
  | kk + 1 => fun x3 x4 x5 h => (if (6 : Int32) ≤ x5 then q h else (if x4 ≤ x3 then q h else (if (x3 &&& (1 : Int32)) = (1 : Int32) then (tw_in x3 64 && tw_rL h 0 2 (fun w5 => tw_rL h 13 (x3).toNatClampNeg (fun w6 => tw_wL h 0 2 (tw_add w5 w6) (fun h7 => tb_askRow_88 q (tb_askRow_26 q kk) x3 x4 x5 h7)))) else tb_askRow_94 q (tb_askRow_26 q kk) x3 x4 x5 h)))
theorem ts_askRow_26 {n m : Int32} {post : St2 → Prop} {q : tw_H → Bool} (hq : ∀ (h : tw_H) (S : Nat → Int32) (A : Nat → Nat → Int32), tw_M n m h S A → q h = true → post (S 0, S 1, S 2, S 3, A 1, A 2, A 3, A 4, A 5, A 6, A 7, A 8, A 9, A 10, A 11, A 12, A 13, A 14, A 15, A 16, A 17, A 18, A 19, A 20, A 21, A 22, A 23, A 24, A 25)) : ∀ (kk : Nat) (x3 x4 x5 : Int32) (h : tw_H) (S : Nat → Int32) (A : Nat → Nat → Int32), tw_M n m h S A → tb_askRow_26 q kk x3 x4 x5 h = true → wX_askRow_26 post (S 0) (S 1) (A 1) (A 2) (A 3) (A 4) (A 5) (A 6) (A 7) (A 8) (A 9) (A 10) (A 11) (A 12) (A 13) (A 14) (A 15) (A 16) (A 17) (A 18) (A 19) (A 20) (A 21) (A 22) (A 23) (A 24) (A 25) kk x3 x4 x5 (S 2) (S 3) := by
  intro kk
  induction kk with
  | zero => intro x3 x4 x5 h S A hM hb; exact (Bool.false_ne_true hb).elim
  | succ kk ih =>
    intro x3 x4 x5 h S A hM hb
    unfold tb_askRow_26 at hb
    unfold wX_askRow_26
    refine And.intro (fun hc1 => ?_) (fun hc1 => ?_)
    · replace hb := tw_bt hc1 hb
      exact hq _ S A hM hb
    · replace hb := tw_bf hc1 hb
      refine And.intro (fun hc2 => ?_) (fun hc2 => ?_)
      · replace hb := tw_bt hc2 hb
        exact hq _ S A hM hb
      · replace hb := tw_bf hc2 hb
        refine And.intro (fun hc3 => ?_) (fun hc3 => ?_)
        · replace hb := tw_bt hc3 hb
          have hi4 := (tw_in_ok hb).1
          replace hb := (tw_in_ok hb).2
          refine And.intro hi4 ?_
          obtain ⟨w5, ew5, hb⟩ := tw_rSL_ok hM hb (by decide)
          obtain ⟨w6, ew6, hb⟩ := tw_rL_ok (f := (A 13)) hM hb rfl rfl
          intro f_177 e_f_177
          refine And.intro hi4 ?_
          refine And.intro (fun hc => ?_) (fun hc => ?_)
          · obtain ⟨h7, hM, hb⟩ := tw_wSL_ok (x := f_177) hM hb (e_f_177.trans (tw_evA ew5 ew6))
            exact ts_askRow_88 hq (fun y0 y1 y2 h S0 e0 e1 hM hb => by have t := ih y0 y1 y2 h S0 A hM hb; rw [e0, e1] at t; exact t) (S := (upd S 2 f_177)) (A := A) hM hb
          · refine And.intro hi4 ?_
            obtain ⟨h7, hM, hb⟩ := tw_wSL_ok (x := f_177) hM hb (e_f_177.trans (tw_evA ew5 ew6))
            exact ts_askRow_88 hq (fun y0 y1 y2 h S0 e0 e1 hM hb => by have t := ih y0 y1 y2 h S0 A hM hb; rw [e0, e1] at t; exact t) (S := (upd S 2 f_177)) (A := A) hM hb
        · replace hb := tw_bf hc3 hb
          exact ts_askRow_94 hq (fun y0 y1 y2 h S0 e0 e1 hM hb => by have t := ih y0 y1 y2 h S0 A hM hb; rw [e0, e1] at t; exact t) (S := S) (A := A) hM hb
def tb_askRow (q : tw_H → Bool) (p0 : Int32) (p1 : Int32) (h : tw_H) : Bool := tb_passDown (fun h1 => tb_passDown (fun h4 => tw_f ((32 : Int32) + p0) (fun x3_161 => tw_f (((32 : Int32) + p1) + (1 : Int32)) (fun x4_162 => tb_askRow_26 q 650 x3_161 x4_162 (0 : Int32) h4))) p1 h1) p0 h
theorem ts_askRow {n m : Int32} {post : St2 → Prop} {q : tw_H → Bool} {p0 : Int32} {p1 : Int32} {h : tw_H} {S : Nat → Int32} {A : Nat → Nat → Int32} (hq : ∀ (h : tw_H) (S : Nat → Int32) (A : Nat → Nat → Int32), tw_M n m h S A → q h = true → post (S 0, S 1, S 2, S 3, A 1, A 2, A 3, A 4, A 5, A 6, A 7, A 8, A 9, A 10, A 11, A 12, A 13, A 14, A 15, A 16, A 17, A 18, A 19, A 20, A 21, A 22, A 23, A 24, A 25)) (hM : tw_M n m h S A) (hb : tb_askRow q p0 p1 h = true) : wpX_askRow post (S 0, S 1, S 2, S 3, A 1, A 2, A 3, A 4, A 5, A 6, A 7, A 8, A 9, A 10, A 11, A 12, A 13, A 14, A 15, A 16, A 17, A 18, A 19, A 20, A 21, A 22, A 23, A 24, A 25) p0 p1 := by
  unfold tb_askRow at hb
  unfold wpX_askRow
  refine ts_passDown ?_ (S := S) (A := A) hM hb
  intro h1 S2 A3 hM hb
  refine ts_passDown ?_ (S := S2) (A := A3) hM hb
  intro h4 S5 A6 hM hb
  intro x3_161 e_x3_161
  replace hb := tw_f_ok hb e_x3_161
  intro x4_162 e_x4_162
  replace hb := tw_f_ok hb e_x4_162
  refine Exists.intro 650 ?_
  exact ts_askRow_26 hq _ _ _ _ _ S5 A6 hM hb
def tb_stretch (q : tw_H → Bool) (p0 : Int32) (p1 : Int32) (p2 : Int32) (p3v : tw_V) (h : tw_H) : Bool := (if p2 = (1 : Int32) then tb_askRow (fun h2 => q h2) p0 p1 h else (if p2 = (2 : Int32) then tb_addRow (fun h6 => q h6) p0 p1 p3v h else q h))
theorem ts_stretch {n m : Int32} {post : St2 → Prop} {q : tw_H → Bool} {p0 : Int32} {p1 : Int32} {p2 : Int32} {p3 : Int32} {p3v : tw_V} {h : tw_H} {S : Nat → Int32} {A : Nat → Nat → Int32} (hq : ∀ (h : tw_H) (S : Nat → Int32) (A : Nat → Nat → Int32), tw_M n m h S A → q h = true → post (S 0, S 1, S 2, S 3, A 1, A 2, A 3, A 4, A 5, A 6, A 7, A 8, A 9, A 10, A 11, A 12, A 13, A 14, A 15, A 16, A 17, A 18, A 19, A 20, A 21, A 22, A 23, A 24, A 25)) (hx_p3 : p3 = tw_ev n m p3v) (hM : tw_M n m h S A) (hb : tb_stretch q p0 p1 p2 p3v h = true) : wpX_stretch post (S 0, S 1, S 2, S 3, A 1, A 2, A 3, A 4, A 5, A 6, A 7, A 8, A 9, A 10, A 11, A 12, A 13, A 14, A 15, A 16, A 17, A 18, A 19, A 20, A 21, A 22, A 23, A 24, A 25) p0 p1 p2 p3 := by
  unfold tb_stretch at hb
  unfold wpX_stretch
  refine And.intro (fun hc1 => ?_) (fun hc1 => ?_)
  · replace hb := tw_bt hc1 hb
    refine ts_askRow ?_ (S := S) (A := A) hM hb
    intro h2 S3 A4 hM hb
    exact hq _ S3 A4 hM hb
  · replace hb := tw_bf hc1 hb
    refine And.intro (fun hc5 => ?_) (fun hc5 => ?_)
    · replace hb := tw_bt hc5 hb
      refine ts_addRow ?_ hx_p3 (S := S) (A := A) hM hb
      intro h6 S7 A8 hM hb
      exact hq _ S7 A8 hM hb
    · replace hb := tw_bf hc5 hb
      exact hq _ S A hM hb
end
section
def tb_alongWay_168 (q : Int32 → tw_H → Bool) (x3 : Int32) (x4v : tw_V) (x7 : Int32) (z0 : Int32) (h : tw_H) : Bool := (tw_in x7 24 && (tw_in z0 24 && tw_rd h 10 (x7).toNatClampNeg (fun v3 => tw_rd h 10 (z0).toNatClampNeg (fun v4 => tb_stretch (fun h5 => q x7 h5) v3 v4 x3 x4v h))))
theorem ts_alongWay_168 {n m : Int32} {post : Int32 → St2 → Prop} {q : Int32 → tw_H → Bool} {x3 : Int32} {x4 : Int32} {x4v : tw_V} {x7 : Int32} {z0 : Int32} {h : tw_H} {S : Nat → Int32} {A : Nat → Nat → Int32} (hq : ∀ (r : Int32) (h : tw_H) (S : Nat → Int32) (A : Nat → Nat → Int32), tw_M n m h S A → q r h = true → post r (S 0, S 1, S 2, S 3, A 1, A 2, A 3, A 4, A 5, A 6, A 7, A 8, A 9, A 10, A 11, A 12, A 13, A 14, A 15, A 16, A 17, A 18, A 19, A 20, A 21, A 22, A 23, A 24, A 25)) (hx_x4 : x4 = tw_ev n m x4v) (hM : tw_M n m h S A) (hb : tb_alongWay_168 q x3 x4v x7 z0 h = true) : wX_alongWay_168 post x3 x4 x7 z0 (S 0) (S 1) (S 2) (S 3) (A 1) (A 2) (A 3) (A 4) (A 5) (A 6) (A 7) (A 8) (A 9) (A 10) (A 11) (A 12) (A 13) (A 14) (A 15) (A 16) (A 17) (A 18) (A 19) (A 20) (A 21) (A 22) (A 23) (A 24) (A 25) := by
  unfold tb_alongWay_168 at hb
  unfold wX_alongWay_168
  have hi1 := (tw_in_ok hb).1
  replace hb := (tw_in_ok hb).2
  refine And.intro hi1 ?_
  have hi2 := (tw_in_ok hb).1
  replace hb := (tw_in_ok hb).2
  refine And.intro hi2 ?_
  replace hb := tw_rd_ok (f := (A 10)) hM hb rfl rfl rfl
  replace hb := tw_rd_ok (f := (A 10)) hM hb rfl rfl rfl
  refine ts_stretch ?_ hx_x4 (S := S) (A := A) hM hb
  intro h5 S6 A7 hM hb
  exact hq _ _ S6 A7 hM hb
def tb_alongWay_142 (q : Int32 → tw_H → Bool) (x3 : Int32) (x4v : tw_V) (x5 : Int32) (x6 : Int32) (z0 : Int32) (h : tw_H) : Bool := (tw_in x5 24 && (tw_in x6 24 && tw_rd h 7 (x6).toNatClampNeg (fun v3 => tw_rd h 7 (x5).toNatClampNeg (fun v4 => (if v3 ≤ v4 then tb_alongWay_168 q x3 x4v z0 x5 h else tb_alongWay_168 q x3 x4v z0 x6 h)))))
theorem ts_alongWay_142 {n m : Int32} {post : Int32 → St2 → Prop} {q : Int32 → tw_H → Bool} {x3 : Int32} {x4 : Int32} {x4v : tw_V} {x5 : Int32} {x6 : Int32} {z0 : Int32} {h : tw_H} {S : Nat → Int32} {A : Nat → Nat → Int32} (hq : ∀ (r : Int32) (h : tw_H) (S : Nat → Int32) (A : Nat → Nat → Int32), tw_M n m h S A → q r h = true → post r (S 0, S 1, S 2, S 3, A 1, A 2, A 3, A 4, A 5, A 6, A 7, A 8, A 9, A 10, A 11, A 12, A 13, A 14, A 15, A 16, A 17, A 18, A 19, A 20, A 21, A 22, A 23, A 24, A 25)) (hx_x4 : x4 = tw_ev n m x4v) (hM : tw_M n m h S A) (hb : tb_alongWay_142 q x3 x4v x5 x6 z0 h = true) : wX_alongWay_142 post x3 x4 x5 x6 z0 (S 0) (S 1) (S 2) (S 3) (A 1) (A 2) (A 3) (A 4) (A 5) (A 6) (A 7) (A 8) (A 9) (A 10) (A 11) (A 12) (A 13) (A 14) (A 15) (A 16) (A 17) (A 18) (A 19) (A 20) (A 21) (A 22) (A 23) (A 24) (A 25) := by
  unfold tb_alongWay_142 at hb
  unfold wX_alongWay_142
  have hi1 := (tw_in_ok hb).1
  replace hb := (tw_in_ok hb).2
  refine And.intro hi1 ?_
  have hi2 := (tw_in_ok hb).1
  replace hb := (tw_in_ok hb).2
  refine And.intro hi2 ?_
  replace hb := tw_rd_ok (f := (A 7)) hM hb rfl rfl rfl
  replace hb := tw_rd_ok (f := (A 7)) hM hb rfl rfl rfl
  refine And.intro (fun hc5 => ?_) (fun hc5 => ?_)
  · replace hb := tw_bt hc5 hb
    exact ts_alongWay_168 hq hx_x4 (S := S) (A := A) hM hb
  · replace hb := tw_bf hc5 hb
    exact ts_alongWay_168 hq hx_x4 (S := S) (A := A) hM hb
def tb_alongWay_118 (q : Int32 → tw_H → Bool) (x3 : Int32) (x4v : tw_V) (x5 : Int32) (x6 : Int32) (h : tw_H) : Bool := (tw_in x5 24 && (tw_in x6 24 && tw_rd h 7 (x6).toNatClampNeg (fun v3 => tw_rd h 7 (x5).toNatClampNeg (fun v4 => (if v3 ≤ v4 then tb_alongWay_142 q x3 x4v x5 x6 x6 h else tb_alongWay_142 q x3 x4v x5 x6 x5 h)))))
theorem ts_alongWay_118 {n m : Int32} {post : Int32 → St2 → Prop} {q : Int32 → tw_H → Bool} {x3 : Int32} {x4 : Int32} {x4v : tw_V} {x5 : Int32} {x6 : Int32} {h : tw_H} {S : Nat → Int32} {A : Nat → Nat → Int32} (hq : ∀ (r : Int32) (h : tw_H) (S : Nat → Int32) (A : Nat → Nat → Int32), tw_M n m h S A → q r h = true → post r (S 0, S 1, S 2, S 3, A 1, A 2, A 3, A 4, A 5, A 6, A 7, A 8, A 9, A 10, A 11, A 12, A 13, A 14, A 15, A 16, A 17, A 18, A 19, A 20, A 21, A 22, A 23, A 24, A 25)) (hx_x4 : x4 = tw_ev n m x4v) (hM : tw_M n m h S A) (hb : tb_alongWay_118 q x3 x4v x5 x6 h = true) : wX_alongWay_118 post x3 x4 x5 x6 (S 0) (S 1) (S 2) (S 3) (A 1) (A 2) (A 3) (A 4) (A 5) (A 6) (A 7) (A 8) (A 9) (A 10) (A 11) (A 12) (A 13) (A 14) (A 15) (A 16) (A 17) (A 18) (A 19) (A 20) (A 21) (A 22) (A 23) (A 24) (A 25) := by
  unfold tb_alongWay_118 at hb
  unfold wX_alongWay_118
  have hi1 := (tw_in_ok hb).1
  replace hb := (tw_in_ok hb).2
  refine And.intro hi1 ?_
  have hi2 := (tw_in_ok hb).1
  replace hb := (tw_in_ok hb).2
  refine And.intro hi2 ?_
  replace hb := tw_rd_ok (f := (A 7)) hM hb rfl rfl rfl
  replace hb := tw_rd_ok (f := (A 7)) hM hb rfl rfl rfl
  refine And.intro (fun hc5 => ?_) (fun hc5 => ?_)
  · replace hb := tw_bt hc5 hb
    exact ts_alongWay_142 hq hx_x4 (S := S) (A := A) hM hb
  · replace hb := tw_bf hc5 hb
    exact ts_alongWay_142 hq hx_x4 (S := S) (A := A) hM hb
def tb_alongWay_72 (q : Int32 → tw_H → Bool) (j9b : Int32 → Int32 → Int32 → tw_H → Bool) (x3 : Int32) (x4v : tw_V) (x5 : Int32) (x6 : Int32) (x7 : Int32) (h : tw_H) : Bool := (tw_in x5 24 && tw_rd h 9 (x5).toNatClampNeg (fun v2 => (tw_in v2 24 && tw_rd h 10 (v2).toNatClampNeg (fun v4 => tw_rd h 10 (x5).toNatClampNeg (fun v5 => tb_stretch (fun h6 => tw_rd h6 9 (x5).toNatClampNeg (fun v9 => (tw_in v9 24 && tw_rd h6 1 (v9).toNatClampNeg (fun x5_183 => tw_f (x7 + (1 : Int32)) (fun x7_184 => j9b x5_183 x6 x7_184 h6))))) v4 v5 x3 x4v h)))))
theorem ts_alongWay_72 {n m : Int32} {post : Int32 → St2 → Prop} {q : Int32 → tw_H → Bool} {J9 : Int32 → Int32 → Int32 → Int32 → Int32 → Int32 → Int32 → (Nat → Int32) → (Nat → Int32) → (Nat → Int32) → (Nat → Int32) → (Nat → Int32) → (Nat → Int32) → (Nat → Int32) → (Nat → Int32) → (Nat → Int32) → (Nat → Int32) → (Nat → Int32) → (Nat → Int32) → (Nat → Int32) → (Nat → Int32) → (Nat → Int32) → (Nat → Int32) → (Nat → Int32) → (Nat → Int32) → (Nat → Int32) → (Nat → Int32) → (Nat → Int32) → (Nat → Int32) → (Nat → Int32) → (Nat → Int32) → (Nat → Int32) → Prop} {j9b : Int32 → Int32 → Int32 → tw_H → Bool} {x3 : Int32} {x4 : Int32} {x4v : tw_V} {x5 : Int32} {x6 : Int32} {x7 : Int32} {h : tw_H} {S : Nat → Int32} {A : Nat → Nat → Int32} (hq : ∀ (r : Int32) (h : tw_H) (S : Nat → Int32) (A : Nat → Nat → Int32), tw_M n m h S A → q r h = true → post r (S 0, S 1, S 2, S 3, A 1, A 2, A 3, A 4, A 5, A 6, A 7, A 8, A 9, A 10, A 11, A 12, A 13, A 14, A 15, A 16, A 17, A 18, A 19, A 20, A 21, A 22, A 23, A 24, A 25)) (hJ9 : ∀ (x1 x2 x3 : Int32) (h : tw_H) (S1 : Nat → Int32) (A1 : Nat → Nat → Int32), tw_M n m h S1 A1 → j9b x1 x2 x3 h = true → J9 x1 x2 x3 (S1 0) (S1 1) (S1 2) (S1 3) (A1 1) (A1 2) (A1 3) (A1 4) (A1 5) (A1 6) (A1 7) (A1 8) (A1 9) (A1 10) (A1 11) (A1 12) (A1 13) (A1 14) (A1 15) (A1 16) (A1 17) (A1 18) (A1 19) (A1 20) (A1 21) (A1 22) (A1 23) (A1 24) (A1 25)) (hx_x4 : x4 = tw_ev n m x4v) (hM : tw_M n m h S A) (hb : tb_alongWay_72 q j9b x3 x4v x5 x6 x7 h = true) : wX_alongWay_72 post J9 x3 x4 x5 x6 x7 (S 0) (S 1) (S 2) (S 3) (A 1) (A 2) (A 3) (A 4) (A 5) (A 6) (A 7) (A 8) (A 9) (A 10) (A 11) (A 12) (A 13) (A 14) (A 15) (A 16) (A 17) (A 18) (A 19) (A 20) (A 21) (A 22) (A 23) (A 24) (A 25) := by
  unfold tb_alongWay_72 at hb
  unfold wX_alongWay_72
  have hi1 := (tw_in_ok hb).1
  replace hb := (tw_in_ok hb).2
  refine And.intro hi1 ?_
  replace hb := tw_rd_ok (f := (A 9)) hM hb rfl rfl rfl
  have hi3 := (tw_in_ok hb).1
  replace hb := (tw_in_ok hb).2
  refine And.intro hi3 ?_
  refine And.intro hi1 ?_
  replace hb := tw_rd_ok (f := (A 10)) hM hb rfl rfl rfl
  replace hb := tw_rd_ok (f := (A 10)) hM hb rfl rfl rfl
  refine ts_stretch ?_ hx_x4 (S := S) (A := A) hM hb
  intro h6 S7 A8 hM hb
  refine And.intro hi1 ?_
  replace hb := tw_rd_ok (f := (A8 9)) hM hb rfl rfl rfl
  have hi10 := (tw_in_ok hb).1
  replace hb := (tw_in_ok hb).2
  refine And.intro hi10 ?_
  intro x5_183 e_x5_183
  replace hb := tw_rd_ok (f := (A8 1)) hM hb rfl rfl e_x5_183
  intro x7_184 e_x7_184
  replace hb := tw_f_ok hb e_x7_184
  exact hJ9 _ _ _ _ S7 A8 hM hb
def tb_alongWay_9 (q : Int32 → tw_H → Bool) (x3 : Int32) (x4v : tw_V) : Nat → Int32 → Int32 → Int32 → tw_H → Bool
  | 0 => fun _ _ _ _ => false
  | kk + 1 => fun x5 x6 x7 h => (if (48 : Int32) ≤ x7 then tb_alongWay_118 q x3 x4v x5 x6 h else (tw_in x5 24 && (tw_in x6 24 && tw_rd h 9 (x5).toNatClampNeg (fun v4 => tw_rd h 9 (x6).toNatClampNeg (fun v5 => (if v4 = v5 then tb_alongWay_118 q x3 x4v x5 x6 h else (tw_in v4 24 && (tw_in v5 24 && tw_rd h 7 (v5).toNatClampNeg (fun v9 => tw_rd h 7 (v4).toNatClampNeg (fun v10 => (if v9 ≤ v10 then tb_alongWay_72 q (tb_alongWay_9 q x3 x4v kk) x3 x4v x5 x6 x7 h else tb_alongWay_72 q (tb_alongWay_9 q x3 x4v kk) x3 x4v x6 x5 x7 h)))))))))))
theorem ts_alongWay_9 {n m : Int32} {post : Int32 → St2 → Prop} {q : Int32 → tw_H → Bool} {x3 : Int32} {x4 : Int32} {x4v : tw_V} (hq : ∀ (r : Int32) (h : tw_H) (S : Nat → Int32) (A : Nat → Nat → Int32), tw_M n m h S A → q r h = true → post r (S 0, S 1, S 2, S 3, A 1, A 2, A 3, A 4, A 5, A 6, A 7, A 8, A 9, A 10, A 11, A 12, A 13, A 14, A 15, A 16, A 17, A 18, A 19, A 20, A 21, A 22, A 23, A 24, A 25)) (hx_x4 : x4 = tw_ev n m x4v) : ∀ (kk : Nat) (x5 x6 x7 : Int32) (h : tw_H) (S : Nat → Int32) (A : Nat → Nat → Int32), tw_M n m h S A → tb_alongWay_9 q x3 x4v kk x5 x6 x7 h = true → wX_alongWay_9 post x3 x4 kk x5 x6 x7 (S 0) (S 1) (S 2) (S 3) (A 1) (A 2) (A 3) (A 4) (A 5) (A 6) (A 7) (A 8) (A 9) (A 10) (A 11) (A 12) (A 13) (A 14) (A 15) (A 16) (A 17) (A 18) (A 19) (A 20) (A 21) (A 22) (A 23) (A 24) (A 25) := by
  intro kk
  induction kk with
  | zero => intro x5 x6 x7 h S A hM hb; exact (Bool.false_ne_true hb).elim
  | succ kk ih =>
    intro x5 x6 x7 h S A hM hb
    unfold tb_alongWay_9 at hb
    unfold wX_alongWay_9
    refine And.intro (fun hc1 => ?_) (fun hc1 => ?_)
    · replace hb := tw_bt hc1 hb
      exact ts_alongWay_118 hq hx_x4 (S := S) (A := A) hM hb
    · replace hb := tw_bf hc1 hb
      have hi2 := (tw_in_ok hb).1
      replace hb := (tw_in_ok hb).2
      refine And.intro hi2 ?_
      have hi3 := (tw_in_ok hb).1
      replace hb := (tw_in_ok hb).2
      refine And.intro hi3 ?_
      replace hb := tw_rd_ok (f := (A 9)) hM hb rfl rfl rfl
      replace hb := tw_rd_ok (f := (A 9)) hM hb rfl rfl rfl
      refine And.intro (fun hc6 => ?_) (fun hc6 => ?_)
      · replace hb := tw_bt hc6 hb
        exact ts_alongWay_118 hq hx_x4 (S := S) (A := A) hM hb
      · replace hb := tw_bf hc6 hb
        refine And.intro hi2 ?_
        have hi7 := (tw_in_ok hb).1
        replace hb := (tw_in_ok hb).2
        refine And.intro hi7 ?_
        refine And.intro hi3 ?_
        have hi8 := (tw_in_ok hb).1
        replace hb := (tw_in_ok hb).2
        refine And.intro hi8 ?_
        replace hb := tw_rd_ok (f := (A 7)) hM hb rfl rfl rfl
        replace hb := tw_rd_ok (f := (A 7)) hM hb rfl rfl rfl
        refine And.intro (fun hc11 => ?_) (fun hc11 => ?_)
        · replace hb := tw_bt hc11 hb
          exact ts_alongWay_72 hq ih hx_x4 (S := S) (A := A) hM hb
        · replace hb := tw_bf hc11 hb
          exact ts_alongWay_72 hq ih hx_x4 (S := S) (A := A) hM hb
def tb_alongWay (q : Int32 → tw_H → Bool) (p0 : Int32) (p1 : Int32) (p2 : Int32) (p3v : tw_V) (h : tw_H) : Bool := tb_alongWay_9 q p2 p3v 650 p0 p1 (0 : Int32) h
theorem ts_alongWay {n m : Int32} {post : Int32 → St2 → Prop} {q : Int32 → tw_H → Bool} {p0 : Int32} {p1 : Int32} {p2 : Int32} {p3 : Int32} {p3v : tw_V} {h : tw_H} {S : Nat → Int32} {A : Nat → Nat → Int32} (hq : ∀ (r : Int32) (h : tw_H) (S : Nat → Int32) (A : Nat → Nat → Int32), tw_M n m h S A → q r h = true → post r (S 0, S 1, S 2, S 3, A 1, A 2, A 3, A 4, A 5, A 6, A 7, A 8, A 9, A 10, A 11, A 12, A 13, A 14, A 15, A 16, A 17, A 18, A 19, A 20, A 21, A 22, A 23, A 24, A 25)) (hx_p3 : p3 = tw_ev n m p3v) (hM : tw_M n m h S A) (hb : tb_alongWay q p0 p1 p2 p3v h = true) : wpX_alongWay post (S 0, S 1, S 2, S 3, A 1, A 2, A 3, A 4, A 5, A 6, A 7, A 8, A 9, A 10, A 11, A 12, A 13, A 14, A 15, A 16, A 17, A 18, A 19, A 20, A 21, A 22, A 23, A 24, A 25) p0 p1 p2 p3 := by
  unfold tb_alongWay at hb
  unfold wpX_alongWay
  refine Exists.intro 650 ?_
  exact ts_alongWay_9 hq hx_p3 _ _ _ _ _ S A hM hb
def tb_apart (q : Int32 → tw_H → Bool) (p0 : Int32) (p1 : Int32) (h : tw_H) : Bool := tb_alongWay (fun r_1 h1 => (tw_in p0 24 && (tw_in p1 24 && (tw_in r_1 24 && tw_rd h1 7 (p0).toNatClampNeg (fun v7 => tw_rd h1 7 (p1).toNatClampNeg (fun v8 => tw_rd h1 7 (r_1).toNatClampNeg (fun v9 => tw_f ((v7 + v8) - ((2 : Int32) * v9)) (fun y10 => q y10 h1)))))))) p0 p1 (0 : Int32) ((0 : Int32), none) h
theorem ts_apart {n m : Int32} {post : Int32 → St2 → Prop} {q : Int32 → tw_H → Bool} {p0 : Int32} {p1 : Int32} {h : tw_H} {S : Nat → Int32} {A : Nat → Nat → Int32} (hq : ∀ (r : Int32) (h : tw_H) (S : Nat → Int32) (A : Nat → Nat → Int32), tw_M n m h S A → q r h = true → post r (S 0, S 1, S 2, S 3, A 1, A 2, A 3, A 4, A 5, A 6, A 7, A 8, A 9, A 10, A 11, A 12, A 13, A 14, A 15, A 16, A 17, A 18, A 19, A 20, A 21, A 22, A 23, A 24, A 25)) (hM : tw_M n m h S A) (hb : tb_apart q p0 p1 h = true) : wpX_apart post (S 0, S 1, S 2, S 3, A 1, A 2, A 3, A 4, A 5, A 6, A 7, A 8, A 9, A 10, A 11, A 12, A 13, A 14, A 15, A 16, A 17, A 18, A 19, A 20, A 21, A 22, A 23, A 24, A 25) p0 p1 := by
  unfold tb_apart at hb
  unfold wpX_apart
  refine ts_alongWay ?_ (tw_evC _ _ _) (S := S) (A := A) hM hb
  intro r_1 h1 S2 A3 hM hb
  have hi4 := (tw_in_ok hb).1
  replace hb := (tw_in_ok hb).2
  refine And.intro hi4 ?_
  have hi5 := (tw_in_ok hb).1
  replace hb := (tw_in_ok hb).2
  refine And.intro hi5 ?_
  have hi6 := (tw_in_ok hb).1
  replace hb := (tw_in_ok hb).2
  refine And.intro hi6 ?_
  replace hb := tw_rd_ok (f := (A3 7)) hM hb rfl rfl rfl
  replace hb := tw_rd_ok (f := (A3 7)) hM hb rfl rfl rfl
  replace hb := tw_rd_ok (f := (A3 7)) hM hb rfl rfl rfl
  replace hb := tw_f_ok hb rfl
  exact hq _ _ S2 A3 hM hb
def tb_addWay (q : Int32 → tw_H → Bool) (p0 : Int32) (p1 : Int32) (p2v : tw_V) (h : tw_H) : Bool := tb_bad (fun r_1 => (if r_1 = (0 : Int32) then tb_bad (fun r_3 => (if r_3 = (0 : Int32) then tb_lay (fun h3 => tb_alongWay (fun r_87 h6 => tb_apart (fun r_167 h9 => tw_f (r_167 + (1 : Int32)) (fun y12 => q y12 h9)) p0 p1 h6) p0 p1 (2 : Int32) p2v h3) h else tw_f (-(1000000 : Int32)) (fun y13 => q y13 h))) p1 h else tw_f (-(1000000 : Int32)) (fun y14 => q y14 h))) p0 h
theorem ts_addWay {n m : Int32} {post : Int32 → St2 → Prop} {q : Int32 → tw_H → Bool} {p0 : Int32} {p1 : Int32} {p2 : Int32} {p2v : tw_V} {h : tw_H} {S : Nat → Int32} {A : Nat → Nat → Int32} (hq : ∀ (r : Int32) (h : tw_H) (S : Nat → Int32) (A : Nat → Nat → Int32), tw_M n m h S A → q r h = true → post r (S 0, S 1, S 2, S 3, A 1, A 2, A 3, A 4, A 5, A 6, A 7, A 8, A 9, A 10, A 11, A 12, A 13, A 14, A 15, A 16, A 17, A 18, A 19, A 20, A 21, A 22, A 23, A 24, A 25)) (hx_p2 : p2 = tw_ev n m p2v) (hA0 : ¬ p2 < (-100)) (hA1 : p2 ≤ 100) (hM : tw_M n m h S A) (hb : tb_addWay q p0 p1 p2v h = true) : wpX_addWay post (S 0, S 1, S 2, S 3, A 1, A 2, A 3, A 4, A 5, A 6, A 7, A 8, A 9, A 10, A 11, A 12, A 13, A 14, A 15, A 16, A 17, A 18, A 19, A 20, A 21, A 22, A 23, A 24, A 25) p0 p1 p2 := by
  unfold tb_addWay at hb
  unfold wpX_addWay
  refine ts_bad ?_ (S := S) (A := A) hM hb
  intro r_1 hb
  refine And.intro (fun hc1 => ?_) (fun hc1 => ?_)
  · replace hb := tw_bt hc1 hb
    refine ts_bad ?_ (S := S) (A := A) hM hb
    intro r_3 hb
    refine And.intro (fun hc2 => ?_) (fun hc2 => ?_)
    · replace hb := tw_bt hc2 hb
      refine br_f hA0 ?_
      refine br_t hA1 ?_
      refine ts_lay ?_ (S := S) (A := A) hM hb
      intro h3 S4 A5 hM hb
      refine ts_alongWay ?_ hx_p2 (S := S4) (A := A5) hM hb
      intro r_87 h6 S7 A8 hM hb
      refine ts_apart ?_ (S := S7) (A := A8) hM hb
      intro r_167 h9 S10 A11 hM hb
      replace hb := tw_f_ok hb rfl
      exact hq _ _ S10 A11 hM hb
    · replace hb := tw_bf hc2 hb
      replace hb := tw_f_ok hb rfl
      exact hq _ _ S A hM hb
  · replace hb := tw_bf hc1 hb
    replace hb := tw_f_ok hb rfl
    exact hq _ _ S A hM hb
def tb_addPart (q : Int32 → tw_H → Bool) (p0 : Int32) (p1v : tw_V) (h : tw_H) : Bool := tb_bad (fun r_1 => (if r_1 = (0 : Int32) then tb_lay (fun h2 => (tw_in p0 24 && tw_rd h2 10 (p0).toNatClampNeg (fun v6 => tw_rd h2 6 (p0).toNatClampNeg (fun v7 => tw_f ((v6 + v7) - (1 : Int32)) (fun y8 => tb_addRow (fun h9 => tw_rd h9 6 (p0).toNatClampNeg (fun v12 => q v12 h9)) v6 y8 p1v h2))))) h else tw_f (-(1000000 : Int32)) (fun y13 => q y13 h))) p0 h
theorem ts_addPart {n m : Int32} {post : Int32 → St2 → Prop} {q : Int32 → tw_H → Bool} {p0 : Int32} {p1 : Int32} {p1v : tw_V} {h : tw_H} {S : Nat → Int32} {A : Nat → Nat → Int32} (hq : ∀ (r : Int32) (h : tw_H) (S : Nat → Int32) (A : Nat → Nat → Int32), tw_M n m h S A → q r h = true → post r (S 0, S 1, S 2, S 3, A 1, A 2, A 3, A 4, A 5, A 6, A 7, A 8, A 9, A 10, A 11, A 12, A 13, A 14, A 15, A 16, A 17, A 18, A 19, A 20, A 21, A 22, A 23, A 24, A 25)) (hx_p1 : p1 = tw_ev n m p1v) (hA0 : ¬ p1 < (-100)) (hA1 : p1 ≤ 100) (hM : tw_M n m h S A) (hb : tb_addPart q p0 p1v h = true) : wpX_addPart post (S 0, S 1, S 2, S 3, A 1, A 2, A 3, A 4, A 5, A 6, A 7, A 8, A 9, A 10, A 11, A 12, A 13, A 14, A 15, A 16, A 17, A 18, A 19, A 20, A 21, A 22, A 23, A 24, A 25) p0 p1 := by
  unfold tb_addPart at hb
  unfold wpX_addPart
  refine ts_bad ?_ (S := S) (A := A) hM hb
  intro r_1 hb
  refine And.intro (fun hc1 => ?_) (fun hc1 => ?_)
  · replace hb := tw_bt hc1 hb
    refine br_f hA0 ?_
    refine br_t hA1 ?_
    refine ts_lay ?_ (S := S) (A := A) hM hb
    intro h2 S3 A4 hM hb
    have hi5 := (tw_in_ok hb).1
    replace hb := (tw_in_ok hb).2
    refine And.intro hi5 ?_
    refine And.intro hi5 ?_
    refine And.intro hi5 ?_
    replace hb := tw_rd_ok (f := (A4 10)) hM hb rfl rfl rfl
    replace hb := tw_rd_ok (f := (A4 6)) hM hb rfl rfl rfl
    replace hb := tw_f_ok hb rfl
    refine ts_addRow ?_ hx_p1 (S := S3) (A := A4) hM hb
    intro h9 S10 A11 hM hb
    refine And.intro hi5 ?_
    replace hb := tw_rd_ok (f := (A11 6)) hM hb rfl rfl rfl
    exact hq _ _ S10 A11 hM hb
  · replace hb := tw_bf hc1 hb
    replace hb := tw_f_ok hb rfl
    exact hq _ _ S A hM hb
def tb_startAsking (q : tw_H → Bool) (h : tw_H) : Bool := tb_lay (fun h1 => tw_wL h1 0 2 ((0 : Int32), none) (fun h4 => q h4)) h
theorem ts_startAsking {n m : Int32} {post : St2 → Prop} {q : tw_H → Bool} {h : tw_H} {S : Nat → Int32} {A : Nat → Nat → Int32} (hq : ∀ (h : tw_H) (S : Nat → Int32) (A : Nat → Nat → Int32), tw_M n m h S A → q h = true → post (S 0, S 1, S 2, S 3, A 1, A 2, A 3, A 4, A 5, A 6, A 7, A 8, A 9, A 10, A 11, A 12, A 13, A 14, A 15, A 16, A 17, A 18, A 19, A 20, A 21, A 22, A 23, A 24, A 25)) (hM : tw_M n m h S A) (hb : tb_startAsking q h = true) : wpX_startAsking post (S 0, S 1, S 2, S 3, A 1, A 2, A 3, A 4, A 5, A 6, A 7, A 8, A 9, A 10, A 11, A 12, A 13, A 14, A 15, A 16, A 17, A 18, A 19, A 20, A 21, A 22, A 23, A 24, A 25) := by
  unfold tb_startAsking at hb
  unfold wpX_startAsking
  refine ts_lay ?_ (S := S) (A := A) hM hb
  intro h1 S2 A3 hM hb
  obtain ⟨h4, hM, hb⟩ := tw_wSL_ok (x := (0 : Int32)) hM hb (tw_evC _ _ _)
  replace hM := tw_wS3 (x := (-(100000000 : Int32))) hM
  exact hq _ (upd (upd S2 2 (0 : Int32)) 3 (-(100000000 : Int32))) A3 hM hb
def tb_waySum (q : tw_V → tw_H → Bool) (p0 : Int32) (p1 : Int32) (h : tw_H) : Bool := tb_bad (fun r_1 => (if r_1 = (0 : Int32) then tb_bad (fun r_3 => (if r_3 = (0 : Int32) then tb_startAsking (fun h3 => tb_alongWay (fun r_85 h6 => tw_rL h6 0 2 (fun w9 => q w9 h6)) p0 p1 (1 : Int32) ((0 : Int32), none) h3) h else q ((-(1000000 : Int32)), none) h)) p1 h else q ((-(1000000 : Int32)), none) h)) p0 h
theorem ts_waySum {n m : Int32} {post : Int32 → St2 → Prop} {q : tw_V → tw_H → Bool} {p0 : Int32} {p1 : Int32} {h : tw_H} {S : Nat → Int32} {A : Nat → Nat → Int32} (hq : ∀ (r : Int32) (v : tw_V) (h : tw_H) (S : Nat → Int32) (A : Nat → Nat → Int32), r = tw_ev n m v → tw_M n m h S A → q v h = true → post r (S 0, S 1, S 2, S 3, A 1, A 2, A 3, A 4, A 5, A 6, A 7, A 8, A 9, A 10, A 11, A 12, A 13, A 14, A 15, A 16, A 17, A 18, A 19, A 20, A 21, A 22, A 23, A 24, A 25)) (hM : tw_M n m h S A) (hb : tb_waySum q p0 p1 h = true) : wpX_waySum post (S 0, S 1, S 2, S 3, A 1, A 2, A 3, A 4, A 5, A 6, A 7, A 8, A 9, A 10, A 11, A 12, A 13, A 14, A 15, A 16, A 17, A 18, A 19, A 20, A 21, A 22, A 23, A 24, A 25) p0 p1 := by
  unfold tb_waySum at hb
  unfold wpX_waySum
  refine ts_bad ?_ (S := S) (A := A) hM hb
  intro r_1 hb
  refine And.intro (fun hc1 => ?_) (fun hc1 => ?_)
  · replace hb := tw_bt hc1 hb
    refine ts_bad ?_ (S := S) (A := A) hM hb
    intro r_3 hb
    refine And.intro (fun hc2 => ?_) (fun hc2 => ?_)
    · replace hb := tw_bt hc2 hb
      refine ts_startAsking ?_ (S := S) (A := A) hM hb
      intro h3 S4 A5 hM hb
      refine ts_alongWay ?_ (tw_evC _ _ _) (S := S4) (A := A5) hM hb
      intro r_85 h6 S7 A8 hM hb
      obtain ⟨w9, ew9, hb⟩ := tw_rSL_ok hM hb (by decide)
      exact hq _ _ _ S7 A8 ew9 hM hb
    · replace hb := tw_bf hc2 hb
      exact hq _ _ _ S A (tw_evC _ _ _) hM hb
  · replace hb := tw_bf hc1 hb
    exact hq _ _ _ S A (tw_evC _ _ _) hM hb
def tb_partSum (q : tw_V → tw_H → Bool) (p0 : Int32) (h : tw_H) : Bool := tb_bad (fun r_1 => (if r_1 = (0 : Int32) then tb_startAsking (fun h2 => (tw_in p0 24 && tw_rd h2 10 (p0).toNatClampNeg (fun v6 => tw_rd h2 6 (p0).toNatClampNeg (fun v7 => tw_f ((v6 + v7) - (1 : Int32)) (fun y8 => tb_askRow (fun h9 => tw_rL h9 0 2 (fun w12 => q w12 h9)) v6 y8 h2))))) h else q ((-(1000000 : Int32)), none) h)) p0 h
theorem ts_partSum {n m : Int32} {post : Int32 → St2 → Prop} {q : tw_V → tw_H → Bool} {p0 : Int32} {h : tw_H} {S : Nat → Int32} {A : Nat → Nat → Int32} (hq : ∀ (r : Int32) (v : tw_V) (h : tw_H) (S : Nat → Int32) (A : Nat → Nat → Int32), r = tw_ev n m v → tw_M n m h S A → q v h = true → post r (S 0, S 1, S 2, S 3, A 1, A 2, A 3, A 4, A 5, A 6, A 7, A 8, A 9, A 10, A 11, A 12, A 13, A 14, A 15, A 16, A 17, A 18, A 19, A 20, A 21, A 22, A 23, A 24, A 25)) (hM : tw_M n m h S A) (hb : tb_partSum q p0 h = true) : wpX_partSum post (S 0, S 1, S 2, S 3, A 1, A 2, A 3, A 4, A 5, A 6, A 7, A 8, A 9, A 10, A 11, A 12, A 13, A 14, A 15, A 16, A 17, A 18, A 19, A 20, A 21, A 22, A 23, A 24, A 25) p0 := by
  unfold tb_partSum at hb
  unfold wpX_partSum
  refine ts_bad ?_ (S := S) (A := A) hM hb
  intro r_1 hb
  refine And.intro (fun hc1 => ?_) (fun hc1 => ?_)
  · replace hb := tw_bt hc1 hb
    refine ts_startAsking ?_ (S := S) (A := A) hM hb
    intro h2 S3 A4 hM hb
    have hi5 := (tw_in_ok hb).1
    replace hb := (tw_in_ok hb).2
    refine And.intro hi5 ?_
    refine And.intro hi5 ?_
    refine And.intro hi5 ?_
    replace hb := tw_rd_ok (f := (A4 10)) hM hb rfl rfl rfl
    replace hb := tw_rd_ok (f := (A4 6)) hM hb rfl rfl rfl
    replace hb := tw_f_ok hb rfl
    refine ts_askRow ?_ (S := S3) (A := A4) hM hb
    intro h9 S10 A11 hM hb
    obtain ⟨w12, ew12, hb⟩ := tw_rSL_ok hM hb (by decide)
    exact hq _ _ _ S10 A11 ew12 hM hb
  · replace hb := tw_bf hc1 hb
    exact hq _ _ _ S A (tw_evC _ _ _) hM hb
def tb_distance (q : Int32 → tw_H → Bool) (p0 : Int32) (p1 : Int32) (h : tw_H) : Bool := tb_bad (fun r_1 => (if r_1 = (0 : Int32) then tb_bad (fun r_3 => (if r_3 = (0 : Int32) then tb_lay (fun h3 => tb_apart (fun r_85 h6 => q r_85 h6) p0 p1 h3) h else tw_f (-(1000000 : Int32)) (fun y9 => q y9 h))) p1 h else tw_f (-(1000000 : Int32)) (fun y10 => q y10 h))) p0 h
theorem ts_distance {n m : Int32} {post : Int32 → St2 → Prop} {q : Int32 → tw_H → Bool} {p0 : Int32} {p1 : Int32} {h : tw_H} {S : Nat → Int32} {A : Nat → Nat → Int32} (hq : ∀ (r : Int32) (h : tw_H) (S : Nat → Int32) (A : Nat → Nat → Int32), tw_M n m h S A → q r h = true → post r (S 0, S 1, S 2, S 3, A 1, A 2, A 3, A 4, A 5, A 6, A 7, A 8, A 9, A 10, A 11, A 12, A 13, A 14, A 15, A 16, A 17, A 18, A 19, A 20, A 21, A 22, A 23, A 24, A 25)) (hM : tw_M n m h S A) (hb : tb_distance q p0 p1 h = true) : wpX_distance post (S 0, S 1, S 2, S 3, A 1, A 2, A 3, A 4, A 5, A 6, A 7, A 8, A 9, A 10, A 11, A 12, A 13, A 14, A 15, A 16, A 17, A 18, A 19, A 20, A 21, A 22, A 23, A 24, A 25) p0 p1 := by
  unfold tb_distance at hb
  unfold wpX_distance
  refine ts_bad ?_ (S := S) (A := A) hM hb
  intro r_1 hb
  refine And.intro (fun hc1 => ?_) (fun hc1 => ?_)
  · replace hb := tw_bt hc1 hb
    refine ts_bad ?_ (S := S) (A := A) hM hb
    intro r_3 hb
    refine And.intro (fun hc2 => ?_) (fun hc2 => ?_)
    · replace hb := tw_bt hc2 hb
      refine ts_lay ?_ (S := S) (A := A) hM hb
      intro h3 S4 A5 hM hb
      refine ts_apart ?_ (S := S4) (A := A5) hM hb
      intro r_85 h6 S7 A8 hM hb
      exact hq _ _ S7 A8 hM hb
    · replace hb := tw_bf hc2 hb
      replace hb := tw_f_ok hb rfl
      exact hq _ _ S A hM hb
  · replace hb := tw_bf hc1 hb
    replace hb := tw_f_ok hb rfl
    exact hq _ _ S A hM hb
def tb_middle (q : Int32 → tw_H → Bool) (p0 : Int32) (p1 : Int32) (p2 : Int32) (h : tw_H) : Bool := tb_bad (fun r_1 => (if r_1 = (0 : Int32) then tb_bad (fun r_3 => (if r_3 = (0 : Int32) then tb_bad (fun r_5 => (if r_5 = (0 : Int32) then tb_lay (fun h4 => tb_alongWay (fun r_87 h7 => tb_alongWay (fun r_167 h10 => tb_alongWay (fun r_247 h13 => tw_f ((r_87 ^^^ r_167) ^^^ r_247) (fun y16 => q y16 h13)) p0 p2 (0 : Int32) ((0 : Int32), none) h10) p1 p2 (0 : Int32) ((0 : Int32), none) h7) p0 p1 (0 : Int32) ((0 : Int32), none) h4) h else tw_f (-(1000000 : Int32)) (fun y17 => q y17 h))) p2 h else tw_f (-(1000000 : Int32)) (fun y18 => q y18 h))) p1 h else tw_f (-(1000000 : Int32)) (fun y19 => q y19 h))) p0 h
theorem ts_middle {n m : Int32} {post : Int32 → St2 → Prop} {q : Int32 → tw_H → Bool} {p0 : Int32} {p1 : Int32} {p2 : Int32} {h : tw_H} {S : Nat → Int32} {A : Nat → Nat → Int32} (hq : ∀ (r : Int32) (h : tw_H) (S : Nat → Int32) (A : Nat → Nat → Int32), tw_M n m h S A → q r h = true → post r (S 0, S 1, S 2, S 3, A 1, A 2, A 3, A 4, A 5, A 6, A 7, A 8, A 9, A 10, A 11, A 12, A 13, A 14, A 15, A 16, A 17, A 18, A 19, A 20, A 21, A 22, A 23, A 24, A 25)) (hM : tw_M n m h S A) (hb : tb_middle q p0 p1 p2 h = true) : wpX_middle post (S 0, S 1, S 2, S 3, A 1, A 2, A 3, A 4, A 5, A 6, A 7, A 8, A 9, A 10, A 11, A 12, A 13, A 14, A 15, A 16, A 17, A 18, A 19, A 20, A 21, A 22, A 23, A 24, A 25) p0 p1 p2 := by
  unfold tb_middle at hb
  unfold wpX_middle
  refine ts_bad ?_ (S := S) (A := A) hM hb
  intro r_1 hb
  refine And.intro (fun hc1 => ?_) (fun hc1 => ?_)
  · replace hb := tw_bt hc1 hb
    refine ts_bad ?_ (S := S) (A := A) hM hb
    intro r_3 hb
    refine And.intro (fun hc2 => ?_) (fun hc2 => ?_)
    · replace hb := tw_bt hc2 hb
      refine ts_bad ?_ (S := S) (A := A) hM hb
      intro r_5 hb
      refine And.intro (fun hc3 => ?_) (fun hc3 => ?_)
      · replace hb := tw_bt hc3 hb
        refine ts_lay ?_ (S := S) (A := A) hM hb
        intro h4 S5 A6 hM hb
        refine ts_alongWay ?_ (tw_evC _ _ _) (S := S5) (A := A6) hM hb
        intro r_87 h7 S8 A9 hM hb
        refine ts_alongWay ?_ (tw_evC _ _ _) (S := S8) (A := A9) hM hb
        intro r_167 h10 S11 A12 hM hb
        refine ts_alongWay ?_ (tw_evC _ _ _) (S := S11) (A := A12) hM hb
        intro r_247 h13 S14 A15 hM hb
        replace hb := tw_f_ok hb rfl
        exact hq _ _ S14 A15 hM hb
      · replace hb := tw_bf hc3 hb
        replace hb := tw_f_ok hb rfl
        exact hq _ _ S A hM hb
    · replace hb := tw_bf hc2 hb
      replace hb := tw_f_ok hb rfl
      exact hq _ _ S A hM hb
  · replace hb := tw_bf hc1 hb
    replace hb := tw_f_ok hb rfl
    exact hq _ _ S A hM hb
def tb_widest_47 (q : Int32 → tw_H → Bool) (x1 : Int32) : Nat → Int32 → Int32 → tw_H → Bool
  | 0 => fun _ _ _ => false
  | kk + 1 => fun x2 x3 h => tw_rd h 0 0 (fun v1 => (if v1 ≤ x3 then q x2 h else tb_apart (fun r_83 h3 => (if r_83 ≤ x2 then tw_f (x3 + (1 : Int32)) (fun x3_164 => tb_widest_47 q x1 kk x2 x3_164 h3) else tw_f (x3 + (1 : Int32)) (fun x3_165 => tb_widest_47 q x1 kk r_83 x3_165 h3))) x1 x3 h))
theorem ts_widest_47 {n m : Int32} {post : Int32 → St2 → Prop} {q : Int32 → tw_H → Bool} {x1 : Int32} (hq : ∀ (r : Int32) (h : tw_H) (S : Nat → Int32) (A : Nat → Nat → Int32), tw_M n m h S A → q r h = true → post r (S 0, S 1, S 2, S 3, A 1, A 2, A 3, A 4, A 5, A 6, A 7, A 8, A 9, A 10, A 11, A 12, A 13, A 14, A 15, A 16, A 17, A 18, A 19, A 20, A 21, A 22, A 23, A 24, A 25)) : ∀ (kk : Nat) (x2 x3 : Int32) (h : tw_H) (S : Nat → Int32) (A : Nat → Nat → Int32), tw_M n m h S A → tb_widest_47 q x1 kk x2 x3 h = true → wX_widest_47 post x1 kk x2 x3 (S 0) (S 1) (S 2) (S 3) (A 1) (A 2) (A 3) (A 4) (A 5) (A 6) (A 7) (A 8) (A 9) (A 10) (A 11) (A 12) (A 13) (A 14) (A 15) (A 16) (A 17) (A 18) (A 19) (A 20) (A 21) (A 22) (A 23) (A 24) (A 25) := by
  intro kk
  induction kk with
  | zero => intro x2 x3 h S A hM hb; exact (Bool.false_ne_true hb).elim
  | succ kk ih =>
    intro x2 x3 h S A hM hb
    unfold tb_widest_47 at hb
    unfold wX_widest_47
    replace hb := tw_rS_ok hM hb (by decide) rfl
    refine And.intro (fun hc2 => ?_) (fun hc2 => ?_)
    · replace hb := tw_bt hc2 hb
      exact hq _ _ S A hM hb
    · replace hb := tw_bf hc2 hb
      refine ts_apart ?_ (S := S) (A := A) hM hb
      intro r_83 h3 S4 A5 hM hb
      refine And.intro (fun hc6 => ?_) (fun hc6 => ?_)
      · replace hb := tw_bt hc6 hb
        intro x3_164 e_x3_164
        replace hb := tw_f_ok hb e_x3_164
        exact ih _ _ _ S4 A5 hM hb
      · replace hb := tw_bf hc6 hb
        intro x3_165 e_x3_165
        replace hb := tw_f_ok hb e_x3_165
        exact ih _ _ _ S4 A5 hM hb
def tb_widest_8 (q : Int32 → tw_H → Bool) : Nat → Int32 → Int32 → tw_H → Bool
  | 0 => fun _ _ _ => false
  | kk + 1 => fun x1 x2 h => tw_rd h 0 0 (fun v1 => (if v1 ≤ x2 then tb_widest_47 q x1 650 (0 : Int32) (0 : Int32) h else (tw_in x2 24 && (tw_in x1 24 && tw_rd h 7 (x2).toNatClampNeg (fun v5 => tw_rd h 7 (x1).toNatClampNeg (fun v6 => (if v5 ≤ v6 then tw_f (x2 + (1 : Int32)) (fun x2_169 => tb_widest_8 q kk x1 x2_169 h) else tw_f (x2 + (1 : Int32)) (fun x2_170 => tb_widest_8 q kk x2 x2_170 h))))))))
theorem ts_widest_8 {n m : Int32} {post : Int32 → St2 → Prop} {q : Int32 → tw_H → Bool} (hq : ∀ (r : Int32) (h : tw_H) (S : Nat → Int32) (A : Nat → Nat → Int32), tw_M n m h S A → q r h = true → post r (S 0, S 1, S 2, S 3, A 1, A 2, A 3, A 4, A 5, A 6, A 7, A 8, A 9, A 10, A 11, A 12, A 13, A 14, A 15, A 16, A 17, A 18, A 19, A 20, A 21, A 22, A 23, A 24, A 25)) : ∀ (kk : Nat) (x1 x2 : Int32) (h : tw_H) (S : Nat → Int32) (A : Nat → Nat → Int32), tw_M n m h S A → tb_widest_8 q kk x1 x2 h = true → wX_widest_8 post (S 0) (S 1) (S 2) (S 3) (A 1) (A 2) (A 3) (A 4) (A 5) (A 6) (A 7) (A 8) (A 9) (A 10) (A 11) (A 12) (A 13) (A 14) (A 15) (A 16) (A 17) (A 18) (A 19) (A 20) (A 21) (A 22) (A 23) (A 24) (A 25) kk x1 x2 := by
  intro kk
  induction kk with
  | zero => intro x1 x2 h S A hM hb; exact (Bool.false_ne_true hb).elim
  | succ kk ih =>
    intro x1 x2 h S A hM hb
    unfold tb_widest_8 at hb
    unfold wX_widest_8
    replace hb := tw_rS_ok hM hb (by decide) rfl
    refine And.intro (fun hc2 => ?_) (fun hc2 => ?_)
    · replace hb := tw_bt hc2 hb
      refine Exists.intro 650 ?_
      exact ts_widest_47 hq _ _ _ _ S A hM hb
    · replace hb := tw_bf hc2 hb
      have hi3 := (tw_in_ok hb).1
      replace hb := (tw_in_ok hb).2
      refine And.intro hi3 ?_
      have hi4 := (tw_in_ok hb).1
      replace hb := (tw_in_ok hb).2
      refine And.intro hi4 ?_
      replace hb := tw_rd_ok (f := (A 7)) hM hb rfl rfl rfl
      replace hb := tw_rd_ok (f := (A 7)) hM hb rfl rfl rfl
      refine And.intro (fun hc7 => ?_) (fun hc7 => ?_)
      · replace hb := tw_bt hc7 hb
        intro x2_169 e_x2_169
        replace hb := tw_f_ok hb e_x2_169
        exact ih _ _ _ S A hM hb
      · replace hb := tw_bf hc7 hb
        intro x2_170 e_x2_170
        replace hb := tw_f_ok hb e_x2_170
        exact ih _ _ _ S A hM hb
def tb_widest (q : Int32 → tw_H → Bool) (h : tw_H) : Bool := tb_lay (fun h1 => tb_widest_8 q 650 (0 : Int32) (0 : Int32) h1) h
theorem ts_widest {n m : Int32} {post : Int32 → St2 → Prop} {q : Int32 → tw_H → Bool} {h : tw_H} {S : Nat → Int32} {A : Nat → Nat → Int32} (hq : ∀ (r : Int32) (h : tw_H) (S : Nat → Int32) (A : Nat → Nat → Int32), tw_M n m h S A → q r h = true → post r (S 0, S 1, S 2, S 3, A 1, A 2, A 3, A 4, A 5, A 6, A 7, A 8, A 9, A 10, A 11, A 12, A 13, A 14, A 15, A 16, A 17, A 18, A 19, A 20, A 21, A 22, A 23, A 24, A 25)) (hM : tw_M n m h S A) (hb : tb_widest q h = true) : wpX_widest post (S 0, S 1, S 2, S 3, A 1, A 2, A 3, A 4, A 5, A 6, A 7, A 8, A 9, A 10, A 11, A 12, A 13, A 14, A 15, A 16, A 17, A 18, A 19, A 20, A 21, A 22, A 23, A 24, A 25) := by
  unfold tb_widest at hb
  unfold wpX_widest
  refine ts_lay ?_ (S := S) (A := A) hM hb
  intro h1 S2 A3 hM hb
  refine Exists.intro 650 ?_
  exact ts_widest_8 hq _ _ _ _ S2 A3 hM hb
end
section
def tt_h0 : tw_H := [(0, 0, ((1 : Int32), none)), (0, 1, ((0 : Int32), none)), (4, 0, ((0 : Int32), none)), (1, 0, ((-1 : Int32), none))]
def tt_run (x4 x5 on part dist mid wid : Int32) (sv wv : tw_V) : Bool :=
  tb_grow (fun _ h => tb_grow (fun _ h => tb_grow (fun _ h => tb_addWay (fun r1 h => tb_addPart (fun r2 h => tb_waySum (fun v1 h => tb_partSum (fun v2 h => tb_distance (fun r3 h => tb_middle (fun r4 h => tb_widest (fun r5 _ => decide (r1 = on ∧ r2 = part ∧ v1 = sv ∧ v2 = wv ∧ r3 = dist ∧ r4 = mid ∧ r5 = wid)) h) 0 2 3 h) 2 3 h) 0 h) 0 3 h) 1 ((0 : Int32), some ((0 : Int32), (1 : Int32))) h) 2 3 ((0 : Int32), some ((1 : Int32), (0 : Int32))) h) x5 h) x4 h) 0 tt_h0
theorem tt_e00 : tt_run 0 0 3 1 2 0 2 ((0 : Int32), some ((2 : Int32), (0 : Int32))) ((0 : Int32), some ((3 : Int32), (1 : Int32))) = true := by decide +kernel
theorem tt_e01 : tt_run 0 1 4 2 3 0 3 ((0 : Int32), some ((3 : Int32), (2 : Int32))) ((0 : Int32), some ((4 : Int32), (2 : Int32))) = true := by decide +kernel
theorem tt_e02 : tt_run 0 2 2 1 1 2 3 ((0 : Int32), some ((2 : Int32), (0 : Int32))) ((0 : Int32), some ((2 : Int32), (1 : Int32))) = true := by decide +kernel
theorem tt_e10 : tt_run 1 0 4 2 3 0 3 ((0 : Int32), some ((2 : Int32), (0 : Int32))) ((0 : Int32), some ((4 : Int32), (2 : Int32))) = true := by decide +kernel
theorem tt_e11 : tt_run 1 1 3 3 2 1 2 ((0 : Int32), some ((2 : Int32), (2 : Int32))) ((0 : Int32), some ((3 : Int32), (3 : Int32))) = true := by decide +kernel
theorem tt_e12 : tt_run 1 2 2 3 1 2 3 ((0 : Int32), some ((2 : Int32), (3 : Int32))) ((0 : Int32), some ((2 : Int32), (3 : Int32))) = true := by decide +kernel
end
section
theorem tt_f00 (n m : Int32) : ∀ kc ks : Nat, (((0 : Int32) = 2 → wL_lawOf_138 (fun r _ => r = 1) 26 1910 (0 : Int32) (0 : Int32) n m (3 : Int32) (1 : Int32) (tw_ev n m ((0 : Int32), some ((2 : Int32), (0 : Int32)))) (tw_ev n m ((0 : Int32), some ((3 : Int32), (1 : Int32)))) (2 : Int32) (0 : Int32) (2 : Int32) 1 kc ks) ∧ (¬ (0 : Int32) = 2 → wL_lawOf_138 (fun r _ => r = 1) 26 1910 (0 : Int32) (0 : Int32) n m (3 : Int32) (1 : Int32) (tw_ev n m ((0 : Int32), some ((2 : Int32), (0 : Int32)))) (tw_ev n m ((0 : Int32), some ((3 : Int32), (1 : Int32)))) (2 : Int32) (0 : Int32) (2 : Int32) 0 kc ks)) := by
  intro kc ks
  repeat' (first
    | (refine br_f (by decide) ?_)
    | (refine br_t (by decide) ?_)
    | (refine br_t (by simp only [tw_ev]; grind) ?_)
    | (intro x ex; subst ex)
    | rfl)
theorem tt_f01 (n m : Int32) : ∀ kc ks : Nat, (((1 : Int32) = 2 → wL_lawOf_138 (fun r _ => r = 1) 26 1910 (0 : Int32) (1 : Int32) n m (4 : Int32) (2 : Int32) (tw_ev n m ((0 : Int32), some ((3 : Int32), (2 : Int32)))) (tw_ev n m ((0 : Int32), some ((4 : Int32), (2 : Int32)))) (3 : Int32) (0 : Int32) (3 : Int32) 1 kc ks) ∧ (¬ (1 : Int32) = 2 → wL_lawOf_138 (fun r _ => r = 1) 26 1910 (0 : Int32) (1 : Int32) n m (4 : Int32) (2 : Int32) (tw_ev n m ((0 : Int32), some ((3 : Int32), (2 : Int32)))) (tw_ev n m ((0 : Int32), some ((4 : Int32), (2 : Int32)))) (3 : Int32) (0 : Int32) (3 : Int32) 0 kc ks)) := by
  intro kc ks
  repeat' (first
    | (refine br_f (by decide) ?_)
    | (refine br_t (by decide) ?_)
    | (refine br_t (by simp only [tw_ev]; grind) ?_)
    | (intro x ex; subst ex)
    | rfl)
theorem tt_f02 (n m : Int32) : ∀ kc ks : Nat, (((2 : Int32) = 2 → wL_lawOf_138 (fun r _ => r = 1) 26 1910 (0 : Int32) (2 : Int32) n m (2 : Int32) (1 : Int32) (tw_ev n m ((0 : Int32), some ((2 : Int32), (0 : Int32)))) (tw_ev n m ((0 : Int32), some ((2 : Int32), (1 : Int32)))) (1 : Int32) (2 : Int32) (3 : Int32) 1 kc ks) ∧ (¬ (2 : Int32) = 2 → wL_lawOf_138 (fun r _ => r = 1) 26 1910 (0 : Int32) (2 : Int32) n m (2 : Int32) (1 : Int32) (tw_ev n m ((0 : Int32), some ((2 : Int32), (0 : Int32)))) (tw_ev n m ((0 : Int32), some ((2 : Int32), (1 : Int32)))) (1 : Int32) (2 : Int32) (3 : Int32) 0 kc ks)) := by
  intro kc ks
  repeat' (first
    | (refine br_f (by decide) ?_)
    | (refine br_t (by decide) ?_)
    | (refine br_t (by simp only [tw_ev]; grind) ?_)
    | (intro x ex; subst ex)
    | rfl)
theorem tt_f10 (n m : Int32) : ∀ kc ks : Nat, (((0 : Int32) = 2 → wL_lawOf_138 (fun r _ => r = 1) 26 1910 (1 : Int32) (0 : Int32) n m (4 : Int32) (2 : Int32) (tw_ev n m ((0 : Int32), some ((2 : Int32), (0 : Int32)))) (tw_ev n m ((0 : Int32), some ((4 : Int32), (2 : Int32)))) (3 : Int32) (0 : Int32) (3 : Int32) 1 kc ks) ∧ (¬ (0 : Int32) = 2 → wL_lawOf_138 (fun r _ => r = 1) 26 1910 (1 : Int32) (0 : Int32) n m (4 : Int32) (2 : Int32) (tw_ev n m ((0 : Int32), some ((2 : Int32), (0 : Int32)))) (tw_ev n m ((0 : Int32), some ((4 : Int32), (2 : Int32)))) (3 : Int32) (0 : Int32) (3 : Int32) 0 kc ks)) := by
  intro kc ks
  repeat' (first
    | (refine br_f (by decide) ?_)
    | (refine br_t (by decide) ?_)
    | (refine br_t (by simp only [tw_ev]; grind) ?_)
    | (intro x ex; subst ex)
    | rfl)
theorem tt_f11 (n m : Int32) : ∀ kc ks : Nat, (((1 : Int32) = 2 → wL_lawOf_138 (fun r _ => r = 1) 26 1910 (1 : Int32) (1 : Int32) n m (3 : Int32) (3 : Int32) (tw_ev n m ((0 : Int32), some ((2 : Int32), (2 : Int32)))) (tw_ev n m ((0 : Int32), some ((3 : Int32), (3 : Int32)))) (2 : Int32) (1 : Int32) (2 : Int32) 1 kc ks) ∧ (¬ (1 : Int32) = 2 → wL_lawOf_138 (fun r _ => r = 1) 26 1910 (1 : Int32) (1 : Int32) n m (3 : Int32) (3 : Int32) (tw_ev n m ((0 : Int32), some ((2 : Int32), (2 : Int32)))) (tw_ev n m ((0 : Int32), some ((3 : Int32), (3 : Int32)))) (2 : Int32) (1 : Int32) (2 : Int32) 0 kc ks)) := by
  intro kc ks
  repeat' (first
    | (refine br_f (by decide) ?_)
    | (refine br_t (by decide) ?_)
    | (refine br_t (by simp only [tw_ev]; grind) ?_)
    | (intro x ex; subst ex)
    | rfl)
theorem tt_f12 (n m : Int32) : ∀ kc ks : Nat, (((2 : Int32) = 2 → wL_lawOf_138 (fun r _ => r = 1) 26 1910 (1 : Int32) (2 : Int32) n m (2 : Int32) (3 : Int32) (tw_ev n m ((0 : Int32), some ((2 : Int32), (3 : Int32)))) (tw_ev n m ((0 : Int32), some ((2 : Int32), (3 : Int32)))) (1 : Int32) (2 : Int32) (3 : Int32) 1 kc ks) ∧ (¬ (2 : Int32) = 2 → wL_lawOf_138 (fun r _ => r = 1) 26 1910 (1 : Int32) (2 : Int32) n m (2 : Int32) (3 : Int32) (tw_ev n m ((0 : Int32), some ((2 : Int32), (3 : Int32)))) (tw_ev n m ((0 : Int32), some ((2 : Int32), (3 : Int32)))) (1 : Int32) (2 : Int32) (3 : Int32) 0 kc ks)) := by
  intro kc ks
  repeat' (first
    | (refine br_f (by decide) ?_)
    | (refine br_t (by decide) ?_)
    | (refine br_t (by simp only [tw_ev]; grind) ?_)
    | (intro x ex; subst ex)
    | rfl)
theorem tt_pick {n m x4 x5 : Int32} (h4 : x4 = 0 ∨ x4 = 1) (h5 : x5 = 0 ∨ x5 = 1 ∨ x5 = 2) : ∃ (on part dist mid wid : Int32) (sv wv : tw_V), tt_run x4 x5 on part dist mid wid sv wv = true ∧ ∀ kc ks : Nat, ((x5 = 2 → wL_lawOf_138 (fun r _ => r = 1) 26 1910 x4 x5 n m on part (tw_ev n m sv) (tw_ev n m wv) dist mid wid 1 kc ks) ∧ (¬ x5 = 2 → wL_lawOf_138 (fun r _ => r = 1) 26 1910 x4 x5 n m on part (tw_ev n m sv) (tw_ev n m wv) dist mid wid 0 kc ks)) := by
  rcases h4 with h4 | h4 <;> rcases h5 with h5 | h5 | h5 <;> subst h4 <;> subst h5
  · exact ⟨_, _, _, _, _, _, _, tt_e00, tt_f00 n m⟩
  · exact ⟨_, _, _, _, _, _, _, tt_e01, tt_f01 n m⟩
  · exact ⟨_, _, _, _, _, _, _, tt_e02, tt_f02 n m⟩
  · exact ⟨_, _, _, _, _, _, _, tt_e10, tt_f10 n m⟩
  · exact ⟨_, _, _, _, _, _, _, tt_e11, tt_f11 n m⟩
  · exact ⟨_, _, _, _, _, _, _, tt_e12, tt_f12 n m⟩
theorem tt_x4 {x p : Int32} (e : x = p &&& 1) : x = 0 ∨ x = 1 := by
  obtain ⟨j, hj, ej⟩ := pk_andE p (m := 1) 1 (by decide)
  rw [e, ej]
  have t : ∀ j, j < 2 ^ 1 → nI j = 0 ∨ nI j = 1 := by decide +kernel
  exact t j hj
theorem tt_x5 {x p : Int32} (e : x = (p &&& 3) - (p &&& 3) / 3 * 3) : x = 0 ∨ x = 1 ∨ x = 2 := by
  obtain ⟨j, hj, ej⟩ := pk_andE p (m := 3) 2 (by decide)
  rw [e, ej]
  have t : ∀ j, j < 2 ^ 2 → nI j - nI j / 3 * 3 = 0 ∨ nI j - nI j / 3 * 3 = 1 ∨ nI j - nI j / 3 * 3 = 2 := by decide +kernel
  exact t j hj
theorem tt_nm {x p : Int32} (e : x = ((p &&& 255) - (p &&& 255) / 201 * 201) - 100) : ¬ x < (-100) ∧ x ≤ 100 := by
  obtain ⟨j, hj, ej⟩ := pk_andE p (m := 255) 8 (by decide)
  rw [e, ej]
  have t : ∀ j, j < 2 ^ 8 → ¬ ((nI j - nI j / 201 * 201) - 100 < (-100)) ∧ (nI j - nI j / 201 * 201) - 100 ≤ 100 := by decide +kernel
  exact t j hj
theorem tt_n (n m : Int32) : n = tw_ev n m ((0 : Int32), some ((1 : Int32), (0 : Int32))) := by
  simp only [tw_ev]
  grind
theorem tt_m (n m : Int32) : m = tw_ev n m ((0 : Int32), some ((0 : Int32), (1 : Int32))) := by
  simp only [tw_ev]
  grind
def tt_S0 : Nat → Int32 := upd (upd (fun _ => 0) 1 0) 0 1
def tt_A0 (am : Nat → Int32) : Nat → Nat → Int32 := tw_st (fun _ _ => 0) 1 am
theorem tt_M0 (n m : Int32) {am : Nat → Int32} (e : am = upd (fun _ => 0) 0 (-1)) : tw_M n m tt_h0 tt_S0 (tt_A0 am) := by
  have h0 : tw_M n m [] (fun _ => 0) (fun _ _ => 0) := ⟨fun i j v _ hl => absurd hl.symm (Option.some_ne_none v), fun j v _ hl => absurd hl.symm (Option.some_ne_none v)⟩
  have h1 := tw_put (i := 1) (j := 0) h0 rfl rfl e (tw_evC n m (-1))
  have h2 := tw_same (i := 4) (j := 0) (v := ((0 : Int32), none)) h1 rfl rfl
  have h3 := tw_putS (j := 1) h2 (tw_evC n m 0)
  exact tw_putS (j := 0) h3 (tw_evC n m 1)
theorem tt_law (p0 p1 p2 : Int32) : wpL_lawOf (fun r _ => r = 1) 26 1910 () p0 p1 p2 := by
  unfold wpL_lawOf
  refine And.intro (by decide) (And.intro (by decide) (Exists.intro 25 (Exists.intro 1881 (And.intro (by decide) (And.intro (by decide) ?_)))))
  unfold wpX_init
  refine And.intro (by decide) ?_
  refine And.intro (by decide) ?_
  refine And.intro (by decide) ?_
  refine And.intro (by decide) ?_
  refine And.intro (by decide) ?_
  refine And.intro (by decide) ?_
  refine And.intro (by decide) ?_
  refine And.intro (by decide) ?_
  refine And.intro (by decide) ?_
  refine And.intro (by decide) ?_
  refine And.intro (by decide) ?_
  refine And.intro (by decide) ?_
  refine And.intro (by decide) ?_
  refine And.intro (by decide) ?_
  refine And.intro (by decide) ?_
  refine And.intro (by decide) ?_
  refine And.intro (by decide) ?_
  refine And.intro (by decide) ?_
  refine And.intro (by decide) ?_
  refine And.intro (by decide) ?_
  refine And.intro (by decide) ?_
  refine And.intro (by decide) ?_
  refine And.intro (by decide) ?_
  refine And.intro (by decide) ?_
  refine And.intro (by decide) ?_
  refine And.intro (by decide) ?_
  refine And.intro (by decide) ?_
  refine And.intro (by decide) ?_
  refine And.intro (by decide) ?_
  refine And.intro (by decide) ?_
  refine And.intro (by decide) ?_
  refine And.intro (by decide) ?_
  refine And.intro (by decide) ?_
  refine And.intro (by decide) ?_
  refine And.intro (by decide) ?_
  refine And.intro (by decide) ?_
  refine And.intro (by decide) ?_
  refine And.intro (by decide) ?_
  refine And.intro (by decide) ?_
  refine And.intro (by decide) ?_
  refine And.intro (by decide) ?_
  refine And.intro (by decide) ?_
  refine And.intro (by decide) ?_
  refine And.intro (by decide) ?_
  refine And.intro (by decide) ?_
  refine And.intro (by decide) ?_
  refine And.intro (by decide) ?_
  refine And.intro (by decide) ?_
  refine And.intro (by decide) ?_
  refine And.intro (by decide) ?_
  intro am e
  intro x4 e4
  refine And.intro (by decide) ?_
  intro x5 e5
  refine And.intro (by decide) ?_
  intro x6 e6
  refine And.intro (by decide) ?_
  intro x7 e7
  have b6 := tt_nm e6
  have b7 := tt_nm e7
  obtain ⟨on, part, dist, mid, wid, sv, wv, hb, hf⟩ := tt_pick (n := x6) (m := x7) (tt_x4 e4) (tt_x5 e5)
  unfold tt_run at hb
  have hM := tt_M0 x6 x7 e
  refine ts_grow ?_ (S := tt_S0) (A := tt_A0 am) hM hb
  intro g1 h1 S1 A1 hM hb
  refine ts_grow ?_ (S := S1) (A := A1) hM hb
  intro g2 h2 S2 A2 hM hb
  refine ts_grow ?_ (S := S2) (A := A2) hM hb
  intro g3 h3 S3 A3 hM hb
  refine ts_addWay ?_ (tt_n x6 x7) b6.1 b6.2 (S := S3) (A := A3) hM hb
  intro r1 h4 S4 A4 hM hb
  refine ts_addPart ?_ (tt_m x6 x7) b7.1 b7.2 (S := S4) (A := A4) hM hb
  intro r2 h5 S5 A5 hM hb
  refine ts_waySum ?_ (S := S5) (A := A5) hM hb
  intro s1 v1 h6 S6 A6 es1 hM hb
  refine ts_partSum ?_ (S := S6) (A := A6) hM hb
  intro s2 v2 h7 S7 A7 es2 hM hb
  refine ts_distance ?_ (S := S7) (A := A7) hM hb
  intro r3 h8 S8 A8 hM hb
  refine ts_middle ?_ (S := S8) (A := A8) hM hb
  intro r4 h9 S9 A9 hM hb
  refine ts_widest ?_ (S := S9) (A := A9) hM hb
  intro r5 h10 S10 A10 hM hb
  obtain ⟨a1, a2, a3, a4, a5, a6, a7⟩ := of_decide_eq_true hb
  rw [a3] at es1
  rw [a4] at es2
  rw [a1, a2, es1, es2, a5, a6, a7]
  exact hf _ _
theorem tt_cell {post : Int32 → Prop} {L : Nat} {xs : Nat → Int32} (hL : L ≤ 3) (j : Nat) (hj : j < 3) (h : ∀ r, post r) : wpL_cellAt post L xs () (nI j) := by
  refine And.intro (fun _ => h _) (fun hc => And.intro ?_ (h _))
  have hlt : j < L := by
    rcases Nat.lt_or_ge j L with z | z
    · exact z
    · exact absurd (nI_le z (by omega)) hc
  exact vp_in_nI hlt (by omega)
theorem i_vc (xs : Nat → Int32) (L : Nat) (hL : L ≤ 3) : wpL_law (fun r => r = 1) L xs := by
  unfold wpL_law
  exact tt_cell hL 0 (by decide) (fun r1 => tt_cell hL 1 (by decide) (fun r2 => tt_cell hL 2 (by decide) (fun r3 => ⟨26, 1910, by decide, by decide, tt_law r1 r2 r3⟩)))
end
