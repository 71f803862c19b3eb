section
/-- a choice by a Bool, by the recursor: what the kernel evaluates -/
noncomputable def rl_c (b x y : Bool) : Bool := Bool.rec (motive := fun _ => Bool) y x b
noncomputable def rl_le (x y : Int32) : Bool := Nat.ble ((x.toBitVec.toNat + 2147483648) % 4294967296) ((y.toBitVec.toNat + 2147483648) % 4294967296)
noncomputable def rl_lt (x y : Int32) : Bool := Nat.ble ((x.toBitVec.toNat + 2147483648) % 4294967296 + 1) ((y.toBitVec.toNat + 2147483648) % 4294967296)
noncomputable def rl_eq (x y : Int32) : Bool := Nat.beq x.toBitVec.toNat y.toBitVec.toNat
noncomputable def rl_in (x : Int32) (n : Nat) : Bool := rl_c (Nat.ble (x.toBitVec.toNat + 1) n) (Nat.ble (x.toBitVec.toNat + 1) 2147483648) false
/-- hands on x as a literal -/
noncomputable def rl_fo (x : Int32) (f : Int32 → Bool) : Bool := Nat.rec (motive := fun _ => Bool) false (fun k _ => f (Int32.ofNat k)) (Nat.succ x.toBitVec.toNat)
/-- an array: the list's cells, zeros behind them -/
def rl_f : List Int32 → Nat → Int32
  | [], _ => 0
  | x :: _, 0 => x
  | _ :: xs, j + 1 => rl_f xs j
/-- a store: behind the list's end zeros alone are stored -/
noncomputable def rl_set : List Int32 → Nat → Int32 → (List Int32 → Bool) → Bool
  | [], _, v, f => rl_c (rl_eq v 0) (f []) false
  | _ :: xs, 0, v, f => f (v :: xs)
  | x :: xs, j + 1, v, f => rl_set xs j v (fun ys => f (x :: ys))
noncomputable def rl_st (l : List Int32) (i : Nat) (v : Int32) (f : List Int32 → Bool) : Bool := rl_fo v (fun w => rl_set l i w f)
abbrev rl_K0 : Type := Int32 → Bool
abbrev rl_K1 : Type := Int32 → Int32 → Int32 → Int32 → Int32 → Int32 → Int32 → Int32 → List Int32 → List Int32 → List Int32 → List Int32 → List Int32 → List Int32 → List Int32 → List Int32 → Bool
abbrev rl_K2 : Type := Int32 → Int32 → Int32 → Int32 → Int32 → Int32 → Int32 → Int32 → Int32 → List Int32 → List Int32 → List Int32 → List Int32 → List Int32 → List Int32 → List Int32 → List Int32 → Bool
abbrev rl_H0 (k : rl_K0) (post : Int32 → Prop) : Prop := ∀ r, k r = true → post r
abbrev rl_HL (k : rl_K0) (post : Int32 → St0 → Prop) : Prop := ∀ r, k r = true → post r ()
abbrev rl_H1 (k : rl_K1) (post : St2 → Prop) : Prop := ∀ (x1 x2 x3 x4 x5 x6 x7 x8 : Int32) (l1 l2 l3 l4 l5 l6 l7 l8 : List Int32), k x1 x2 x3 x4 x5 x6 x7 x8 l1 l2 l3 l4 l5 l6 l7 l8 = true → post (x1, x2, x3, x4, x5, x6, x7, x8, rl_f l1, rl_f l2, rl_f l3, rl_f l4, rl_f l5, rl_f l6, rl_f l7, rl_f l8)
abbrev rl_H2 (k : rl_K2) (post : Int32 → St2 → Prop) : Prop := ∀ (r x1 x2 x3 x4 x5 x6 x7 x8 : Int32) (l1 l2 l3 l4 l5 l6 l7 l8 : List Int32), k r x1 x2 x3 x4 x5 x6 x7 x8 l1 l2 l3 l4 l5 l6 l7 l8 = true → post r (x1, x2, x3, x4, x5, x6, x7, x8, rl_f l1, rl_f l2, rl_f l3, rl_f l4, rl_f l5, rl_f l6, rl_f l7, rl_f l8)
theorem rl_toInt (x : Int32) : (x.toBitVec.toNat < 2147483648 → x.toInt = (x.toBitVec.toNat : Int)) ∧ (2147483648 ≤ x.toBitVec.toNat → x.toInt = (x.toBitVec.toNat : Int) - 4294967296) ∧ x.toBitVec.toNat < 4294967296 := by
  have h : x.toInt = x.toBitVec.toInt := rfl
  have hb : x.toBitVec.toNat < 4294967296 := x.toBitVec.isLt
  rw [h, BitVec.toInt_eq_toNat_cond]
  refine ⟨fun c => ?_, fun c => ?_, hb⟩
  · rw [if_pos (by omega)]
  · rw [if_neg (by omega)]
    rfl
theorem rl_ar (a b : Nat) (x y : Int) (ha : (a < 2147483648 → x = (a : Int)) ∧ (2147483648 ≤ a → x = (a : Int) - 4294967296) ∧ a < 4294967296) (hb : (b < 2147483648 → y = (b : Int)) ∧ (2147483648 ≤ b → y = (b : Int) - 4294967296) ∧ b < 4294967296) : ((a + 2147483648) % 4294967296 ≤ (b + 2147483648) % 4294967296 ↔ x ≤ y) := by
  obtain ⟨a1, a2, a3⟩ := ha
  obtain ⟨b1, b2, b3⟩ := hb
  rcases Nat.lt_or_ge a 2147483648 with ca | ca <;> rcases Nat.lt_or_ge b 2147483648 with cb | cb
  · have := a1 ca; have := b1 cb; omega
  · have := a1 ca; have := b2 cb; omega
  · have := a2 ca; have := b1 cb; omega
  · have := a2 ca; have := b2 cb; omega
theorem rl_le_iff {x y : Int32} : rl_le x y = true ↔ x ≤ y := by
  unfold rl_le
  rw [Nat.ble_eq, rl_ar _ _ _ _ (rl_toInt x) (rl_toInt y)]
  exact Int32.le_iff_toInt_le.symm
theorem rl_lt_iff {x y : Int32} : rl_lt x y = true ↔ x < y := by
  have h := rl_ar _ _ _ _ (rl_toInt y) (rl_toInt x)
  unfold rl_lt
  rw [Nat.ble_eq, Int32.lt_iff_toInt_lt]
  omega
theorem rl_eq_iff {x y : Int32} : rl_eq x y = true ↔ x = y := by
  unfold rl_eq
  rw [Nat.beq_eq]
  exact ⟨fun h => Int32.toBitVec_inj.mp (BitVec.eq_of_toNat_eq h), fun h => by rw [h]⟩
theorem rl_cT {b x y : Bool} (h : rl_c b x y = true) (c : b = true) : x = true := by
  subst c
  exact h
theorem rl_cF {b x y : Bool} (h : rl_c b x y = true) (c : ¬ b = true) : y = true := by
  cases b
  · exact h
  · exact absurd rfl c
theorem rl_ifle {x y : Int32} {a b : Bool} {A B : Prop} (h : rl_c (rl_le x y) a b = true) (hA : a = true → A) (hB : b = true → B) : (x ≤ y → A) ∧ (¬ x ≤ y → B) :=
  ⟨fun c => hA (rl_cT h (rl_le_iff.mpr c)), fun c => hB (rl_cF h (fun z => c (rl_le_iff.mp z)))⟩
theorem rl_iflt {x y : Int32} {a b : Bool} {A B : Prop} (h : rl_c (rl_lt x y) a b = true) (hA : a = true → A) (hB : b = true → B) : (x < y → A) ∧ (¬ x < y → B) :=
  ⟨fun c => hA (rl_cT h (rl_lt_iff.mpr c)), fun c => hB (rl_cF h (fun z => c (rl_lt_iff.mp z)))⟩
theorem rl_ifeq {x y : Int32} {a b : Bool} {A B : Prop} (h : rl_c (rl_eq x y) a b = true) (hA : a = true → A) (hB : b = true → B) : (x = y → A) ∧ (¬ x = y → B) :=
  ⟨fun c => hA (rl_cT h (rl_eq_iff.mpr c)), fun c => hB (rl_cF h (fun z => c (rl_eq_iff.mp z)))⟩
theorem rl_nzs {x : Int32} {b : Bool} {B : Prop} (h : rl_c (rl_eq x 0) false b = true) (hB : b = true → B) : ¬ x = 0 ∧ B :=
  have c : ¬ x = 0 := fun c => absurd (rl_cT h (rl_eq_iff.mpr c)) (by decide)
  ⟨c, hB (rl_cF h (fun z => c (rl_eq_iff.mp z)))⟩
theorem rl_in_ok {x : Int32} {n : Nat} (h : rl_in x n = true) : vp_in x n := by
  unfold rl_in at h
  have h1 : Nat.ble (x.toBitVec.toNat + 1) n = true := by
    cases e : Nat.ble (x.toBitVec.toNat + 1) n
    · rw [e] at h
      exact absurd (show false = true from h) (by decide)
    · rfl
  have h2 := rl_cT h h1
  rw [Nat.ble_eq] at h1 h2
  obtain ⟨a, b, c⟩ := rl_toInt x
  have := a (by omega)
  exact vp_in_iff.mpr (by omega)
theorem rl_ins {x : Int32} {n : Nat} {b : Bool} {B : Prop} (h : rl_c (rl_in x n) b false = true) (hB : b = true → B) : vp_in x n ∧ B :=
  have c : rl_in x n = true := by
    cases e : rl_in x n
    · rw [e] at h
      exact absurd (show false = true from h) (by decide)
    · rfl
  ⟨rl_in_ok c, hB (rl_cT h c)⟩
theorem rl_of (x : Int32) : Int32.ofNat x.toBitVec.toNat = x := by
  refine Int32.toBitVec_inj.mp (BitVec.eq_of_toNat_eq ?_)
  show x.toBitVec.toNat % 2 ^ 32 = x.toBitVec.toNat
  exact Nat.mod_eq_of_lt x.toBitVec.isLt
theorem rl_foE {x : Int32} {f : Int32 → Bool} (h : rl_fo x f = true) : f x = true := by
  have h' : f (Int32.ofNat x.toBitVec.toNat) = true := h
  rw [rl_of] at h'
  exact h'
theorem rl_nm {e : Int32} {f : Int32 → Bool} {P : Int32 → Prop} (h : rl_fo e f = true) (H : ∀ x, f x = true → P x) : ∀ x, x = e → P x :=
  fun x hx => H x (by rw [hx]; exact rl_foE h)
theorem rl_set_ok : ∀ (l : List Int32) (j : Nat) (v : Int32) (f : List Int32 → Bool), rl_set l j v f = true → ∃ l', f l' = true ∧ rl_f l' = upd (rl_f l) j v := by
  intro l
  induction l with
  | nil =>
    intro j v f h
    have h : rl_c (rl_eq v 0) (f []) false = true := h
    have c : rl_eq v 0 = true := by
      cases e : rl_eq v 0
      · rw [e] at h
        exact absurd (show false = true from h) (by decide)
      · rfl
    refine ⟨[], rl_cT h c, funext (fun i => ?_)⟩
    have hv : v = 0 := rl_eq_iff.mp c
    by_cases e : i = j
    · rw [e, pk_us, hv]
      rfl
    · rw [pk_un e]
  | cons x xs ih =>
    intro j v f h
    cases j with
    | zero =>
      refine ⟨v :: xs, h, funext (fun i => ?_)⟩
      cases i with
      | zero => rw [pk_us]; rfl
      | succ i => rw [pk_un (Nat.succ_ne_zero i)]; rfl
    | succ j =>
      obtain ⟨l', h1, h2⟩ := ih j v _ h
      refine ⟨x :: l', h1, funext (fun i => ?_)⟩
      cases i with
      | zero => rw [pk_un (fun z => Nat.succ_ne_zero j z.symm)]; rfl
      | succ i =>
        have h3 : rl_f l' i = upd (rl_f xs) j v i := congrFun h2 i
        show rl_f l' i = upd (rl_f (x :: xs)) (j + 1) v (i + 1)
        rw [h3]
        by_cases e : i = j
        · rw [e, pk_us, pk_us]
        · rw [pk_un e, pk_un (fun z => e (Nat.succ.inj z))]
          rfl
theorem rl_nu {l : List Int32} {i : Nat} {v : Int32} {f : List Int32 → Bool} {P : (Nat → Int32) → Prop} (h : rl_st l i v f = true) (H : ∀ l', f l' = true → P (rl_f l')) : ∀ x, x = upd (rl_f l) i v → P x := by
  intro x hx
  obtain ⟨l', h1, h2⟩ := rl_set_ok l i v f (rl_foE h)
  rw [hx, ← h2]
  exact H l' h1
end
section
noncomputable def rl_wpX_isSymbol (post : rl_K0) (f0_q : Int32) (f0_limit : Int32) (f0_size : Int32) (f0_workSize : Int32) (f0_rows : Int32) (f0_columns : Int32) (f0_rank : Int32) (f0_registerLength : Int32) (a1 : List Int32) (a2 : List Int32) (a3 : List Int32) (a4 : List Int32) (a5 : List Int32) (a6 : List Int32) (a7 : List Int32) (a8 : List Int32) (p0 : Int32) : Bool :=
  rl_c (rl_lt p0 0) (post 0) (rl_c (rl_le f0_q p0) (post 0) (post 1))
noncomputable def rl_wpX_append (post : rl_K2) (f0_q : Int32) (f0_limit : Int32) (f0_size : Int32) (f0_workSize : Int32) (f0_rows : Int32) (f0_columns : Int32) (f0_rank : Int32) (f0_registerLength : Int32) (a1 : List Int32) (a2 : List Int32) (a3 : List Int32) (a4 : List Int32) (a5 : List Int32) (a6 : List Int32) (a7 : List Int32) (a8 : List Int32) (p0 : Int32) : Bool :=
  rl_wpX_isSymbol (fun r_1 => rl_c (rl_eq r_1 0) (post 0 f0_q f0_limit f0_size f0_workSize f0_rows f0_columns f0_rank f0_registerLength a1 a2 a3 a4 a5 a6 a7 a8) (rl_c (rl_lt f0_size f0_limit) (rl_c (rl_in f0_size 12) (rl_st a1 f0_size.toNatClampNeg p0.toInt8.toInt32 (fun a1_5 => rl_fo (f0_size + 1) (fun f_6 => post 1 f0_q f0_limit f_6 f0_workSize f0_rows f0_columns f0_rank f0_registerLength a1_5 a2 a3 a4 a5 a6 a7 a8))) false) (post 0 f0_q f0_limit f0_size f0_workSize f0_rows f0_columns f0_rank f0_registerLength a1 a2 a3 a4 a5 a6 a7 a8))) f0_q f0_limit f0_size f0_workSize f0_rows f0_columns f0_rank f0_registerLength a1 a2 a3 a4 a5 a6 a7 a8 p0
noncomputable def rl_wX_take_7 (post : rl_K1) (x2 : Int32) (f0_q : Int32) (f0_limit : Int32) (f0_size : Int32) (f0_rows : Int32) (f0_columns : Int32) (f0_rank : Int32) (f0_registerLength : Int32) : Nat → Int32 → Int32 → List Int32 → List Int32 → List Int32 → List Int32 → List Int32 → List Int32 → List Int32 → List Int32 → Bool
  | 0 => fun _ _ _ _ _ _ _ _ _ _ => false
  | n + 1 => fun x3 f0_workSize a1 a2 a3 a4 a5 a6 a7 a8 => rl_c (rl_le x2 x3) (post f0_q f0_limit f0_size f0_workSize f0_rows f0_columns f0_rank f0_registerLength a1 a2 a3 a4 a5 a6 a7 a8) (rl_c (rl_in x3 12) (rl_c (rl_in f0_workSize 64) (rl_st a2 f0_workSize.toNatClampNeg (vp_nar .byte (rl_f a1 x3.toNatClampNeg)) (fun a2_4 => rl_fo (f0_workSize + 1) (fun f_5 => rl_fo (x3 + 1) (fun x3_6 => rl_wX_take_7 post x2 f0_q f0_limit f0_size f0_rows f0_columns f0_rank f0_registerLength n x3_6 f_5 a1 a2_4 a3 a4 a5 a6 a7 a8)))) false) false)
noncomputable def rl_wpX_take (post : rl_K1) (f0_q : Int32) (f0_limit : Int32) (f0_size : Int32) (f0_workSize : Int32) (f0_rows : Int32) (f0_columns : Int32) (f0_rank : Int32) (f0_registerLength : Int32) (a1 : List Int32) (a2 : List Int32) (a3 : List Int32) (a4 : List Int32) (a5 : List Int32) (a6 : List Int32) (a7 : List Int32) (a8 : List Int32) (p0 : Int32) (p1 : Int32) : Bool :=
  rl_wX_take_7 post p1 f0_q f0_limit f0_size f0_rows f0_columns f0_rank f0_registerLength 40 p0 0 a1 a2 a3 a4 a5 a6 a7 a8
noncomputable def rl_wX_discrepancy_5 (post : rl_K0) (x1 : Int32) (x2 : Int32) (f0_q : Int32) (f0_limit : Int32) (f0_size : Int32) (f0_workSize : Int32) (f0_rows : Int32) (f0_columns : Int32) (f0_rank : Int32) (f0_registerLength : Int32) (a1 : List Int32) (a2 : List Int32) (a3 : List Int32) (a4 : List Int32) (a5 : List Int32) (a6 : List Int32) (a7 : List Int32) (a8 : List Int32) : Nat → Int32 → Int32 → Bool
  | 0 => fun _ _ => false
  | n + 1 => fun x3 x4 => rl_c (rl_lt x2 x4) (rl_c (rl_eq f0_q 0) false (rl_fo (x3 - x3 / f0_q * f0_q) (fun y_1 => post y_1))) (rl_c (rl_lt x1 x4) (rl_c (rl_eq f0_q 0) false (rl_fo (x3 - x3 / f0_q * f0_q) (fun y_1 => post y_1))) (rl_c (rl_in x4 32) (rl_c (rl_in (x1 - x4) 64) (rl_fo (x3 + ((rl_f a3 x4.toNatClampNeg) * (rl_f a2 (x1 - x4).toNatClampNeg))) (fun x3_7 => rl_fo (x4 + 1) (fun x4_8 => rl_wX_discrepancy_5 post x1 x2 f0_q f0_limit f0_size f0_workSize f0_rows f0_columns f0_rank f0_registerLength a1 a2 a3 a4 a5 a6 a7 a8 n x3_7 x4_8))) false) false))
noncomputable def rl_wpX_discrepancy (post : rl_K0) (f0_q : Int32) (f0_limit : Int32) (f0_size : Int32) (f0_workSize : Int32) (f0_rows : Int32) (f0_columns : Int32) (f0_rank : Int32) (f0_registerLength : Int32) (a1 : List Int32) (a2 : List Int32) (a3 : List Int32) (a4 : List Int32) (a5 : List Int32) (a6 : List Int32) (a7 : List Int32) (a8 : List Int32) (p0 : Int32) (p1 : Int32) : Bool :=
  rl_wX_discrepancy_5 post p0 p1 f0_q f0_limit f0_size f0_workSize f0_rows f0_columns f0_rank f0_registerLength a1 a2 a3 a4 a5 a6 a7 a8 40 0 0
noncomputable def rl_wX_inverse_4 (post : rl_K0) (x1 : Int32) (f0_q : Int32) (f0_limit : Int32) (f0_size : Int32) (f0_workSize : Int32) (f0_rows : Int32) (f0_columns : Int32) (f0_rank : Int32) (f0_registerLength : Int32) (a1 : List Int32) (a2 : List Int32) (a3 : List Int32) (a4 : List Int32) (a5 : List Int32) (a6 : List Int32) (a7 : List Int32) (a8 : List Int32) : Nat → Int32 → Int32 → Bool
  | 0 => fun _ _ => false
  | n + 1 => fun x2 x3 => rl_c (rl_le f0_q x3) (post x2) (rl_c (rl_eq f0_q 0) false (rl_c (rl_eq ((x1 * x3) - (x1 * x3) / f0_q * f0_q) 1) (rl_fo (x3 + 1) (fun x3_5 => rl_wX_inverse_4 post x1 f0_q f0_limit f0_size f0_workSize f0_rows f0_columns f0_rank f0_registerLength a1 a2 a3 a4 a5 a6 a7 a8 n x3 x3_5)) (rl_fo (x3 + 1) (fun x3_4 => rl_wX_inverse_4 post x1 f0_q f0_limit f0_size f0_workSize f0_rows f0_columns f0_rank f0_registerLength a1 a2 a3 a4 a5 a6 a7 a8 n x2 x3_4))))
noncomputable def rl_wpX_inverse (post : rl_K0) (f0_q : Int32) (f0_limit : Int32) (f0_size : Int32) (f0_workSize : Int32) (f0_rows : Int32) (f0_columns : Int32) (f0_rank : Int32) (f0_registerLength : Int32) (a1 : List Int32) (a2 : List Int32) (a3 : List Int32) (a4 : List Int32) (a5 : List Int32) (a6 : List Int32) (a7 : List Int32) (a8 : List Int32) (p0 : Int32) : Bool :=
  rl_wX_inverse_4 post p0 f0_q f0_limit f0_size f0_workSize f0_rows f0_columns f0_rank f0_registerLength a1 a2 a3 a4 a5 a6 a7 a8 40 1 2
noncomputable def rl_wpX_wrap (post : rl_K0) (f0_q : Int32) (f0_limit : Int32) (f0_size : Int32) (f0_workSize : Int32) (f0_rows : Int32) (f0_columns : Int32) (f0_rank : Int32) (f0_registerLength : Int32) (a1 : List Int32) (a2 : List Int32) (a3 : List Int32) (a4 : List Int32) (a5 : List Int32) (a6 : List Int32) (a7 : List Int32) (a8 : List Int32) (p0 : Int32) : Bool :=
  rl_c (rl_eq f0_q 0) false (rl_fo ((p0 + (f0_q * f0_q)) - (p0 + (f0_q * f0_q)) / f0_q * f0_q) (fun y_1 => post y_1))
noncomputable def rl_wX_mend_17 (post : rl_K1) (x3 : Int32) (x4 : Int32) (f0_q : Int32) (f0_limit : Int32) (f0_size : Int32) (f0_workSize : Int32) (f0_rows : Int32) (f0_columns : Int32) (f0_rank : Int32) (f0_registerLength : Int32) : Nat → Int32 → List Int32 → List Int32 → List Int32 → List Int32 → List Int32 → List Int32 → List Int32 → List Int32 → Bool
  | 0 => fun _ _ _ _ _ _ _ _ _ => false
  | n + 1 => fun x5 a1 a2 a3 a4 a5 a6 a7 a8 => rl_c (rl_le 32 x5) (post f0_q f0_limit f0_size f0_workSize f0_rows f0_columns f0_rank f0_registerLength a1 a2 a3 a4 a5 a6 a7 a8) (rl_c (rl_in x5 32) (rl_c (rl_in (x5 - x3) 32) (rl_fo ((rl_f a3 x5.toNatClampNeg) - (x4 * (rl_f a4 (x5 - x3).toNatClampNeg))) (fun x6_7 => rl_wpX_wrap (fun r_8 => rl_c (rl_in x5 32) (rl_st a3 x5.toNatClampNeg r_8.toInt8.toInt32 (fun a3_10 => rl_fo (x5 + 1) (fun x5_11 => rl_wX_mend_17 post x3 x4 f0_q f0_limit f0_size f0_workSize f0_rows f0_columns f0_rank f0_registerLength n x5_11 a1 a2 a3_10 a4 a5 a6 a7 a8))) false) f0_q f0_limit f0_size f0_workSize f0_rows f0_columns f0_rank f0_registerLength a1 a2 a3 a4 a5 a6 a7 a8 x6_7)) false) false)
noncomputable def rl_wpX_mend (post : rl_K1) (f0_q : Int32) (f0_limit : Int32) (f0_size : Int32) (f0_workSize : Int32) (f0_rows : Int32) (f0_columns : Int32) (f0_rank : Int32) (f0_registerLength : Int32) (a1 : List Int32) (a2 : List Int32) (a3 : List Int32) (a4 : List Int32) (a5 : List Int32) (a6 : List Int32) (a7 : List Int32) (a8 : List Int32) (p0 : Int32) (p1 : Int32) (p2 : Int32) : Bool :=
  rl_wpX_inverse (fun r_1 => rl_c (rl_eq f0_q 0) false (rl_fo ((p0 * r_1) - (p0 * r_1) / f0_q * f0_q) (fun x4_3 => rl_wX_mend_17 post p2 x4_3 f0_q f0_limit f0_size f0_workSize f0_rows f0_columns f0_rank f0_registerLength 40 p2 a1 a2 a3 a4 a5 a6 a7 a8))) f0_q f0_limit f0_size f0_workSize f0_rows f0_columns f0_rank f0_registerLength a1 a2 a3 a4 a5 a6 a7 a8 p1
noncomputable def rl_wX_keepCopy_2 (post : rl_K1) (f0_q : Int32) (f0_limit : Int32) (f0_size : Int32) (f0_workSize : Int32) (f0_rows : Int32) (f0_columns : Int32) (f0_rank : Int32) (f0_registerLength : Int32) : Nat → Int32 → List Int32 → List Int32 → List Int32 → List Int32 → List Int32 → List Int32 → List Int32 → List Int32 → Bool
  | 0 => fun _ _ _ _ _ _ _ _ _ => false
  | n + 1 => fun x1 a1 a2 a3 a4 a5 a6 a7 a8 => rl_c (rl_le 32 x1) (post f0_q f0_limit f0_size f0_workSize f0_rows f0_columns f0_rank f0_registerLength a1 a2 a3 a4 a5 a6 a7 a8) (rl_c (rl_in x1 32) (rl_c (rl_in x1 32) (rl_st a5 x1.toNatClampNeg (vp_nar .byte (rl_f a3 x1.toNatClampNeg)) (fun a5_4 => rl_fo (x1 + 1) (fun x1_5 => rl_wX_keepCopy_2 post f0_q f0_limit f0_size f0_workSize f0_rows f0_columns f0_rank f0_registerLength n x1_5 a1 a2 a3 a4 a5_4 a6 a7 a8))) false) false)
noncomputable def rl_wpX_keepCopy (post : rl_K1) (f0_q : Int32) (f0_limit : Int32) (f0_size : Int32) (f0_workSize : Int32) (f0_rows : Int32) (f0_columns : Int32) (f0_rank : Int32) (f0_registerLength : Int32) (a1 : List Int32) (a2 : List Int32) (a3 : List Int32) (a4 : List Int32) (a5 : List Int32) (a6 : List Int32) (a7 : List Int32) (a8 : List Int32) : Bool :=
  rl_wX_keepCopy_2 post f0_q f0_limit f0_size f0_workSize f0_rows f0_columns f0_rank f0_registerLength 40 0 a1 a2 a3 a4 a5 a6 a7 a8
noncomputable def rl_wX_useCopy_2 (post : rl_K1) (f0_q : Int32) (f0_limit : Int32) (f0_size : Int32) (f0_workSize : Int32) (f0_rows : Int32) (f0_columns : Int32) (f0_rank : Int32) (f0_registerLength : Int32) : Nat → Int32 → List Int32 → List Int32 → List Int32 → List Int32 → List Int32 → List Int32 → List Int32 → List Int32 → Bool
  | 0 => fun _ _ _ _ _ _ _ _ _ => false
  | n + 1 => fun x1 a1 a2 a3 a4 a5 a6 a7 a8 => rl_c (rl_le 32 x1) (post f0_q f0_limit f0_size f0_workSize f0_rows f0_columns f0_rank f0_registerLength a1 a2 a3 a4 a5 a6 a7 a8) (rl_c (rl_in x1 32) (rl_c (rl_in x1 32) (rl_st a4 x1.toNatClampNeg (vp_nar .byte (rl_f a5 x1.toNatClampNeg)) (fun a4_4 => rl_fo (x1 + 1) (fun x1_5 => rl_wX_useCopy_2 post f0_q f0_limit f0_size f0_workSize f0_rows f0_columns f0_rank f0_registerLength n x1_5 a1 a2 a3 a4_4 a5 a6 a7 a8))) false) false)
noncomputable def rl_wpX_useCopy (post : rl_K1) (f0_q : Int32) (f0_limit : Int32) (f0_size : Int32) (f0_workSize : Int32) (f0_rows : Int32) (f0_columns : Int32) (f0_rank : Int32) (f0_registerLength : Int32) (a1 : List Int32) (a2 : List Int32) (a3 : List Int32) (a4 : List Int32) (a5 : List Int32) (a6 : List Int32) (a7 : List Int32) (a8 : List Int32) : Bool :=
  rl_wX_useCopy_2 post f0_q f0_limit f0_size f0_workSize f0_rows f0_columns f0_rank f0_registerLength 40 0 a1 a2 a3 a4 a5 a6 a7 a8
noncomputable def rl_wX_shortest_51 (post : rl_K2)  : Nat → Int32 → Int32 → Int32 → Int32 → Int32 → Int32 → Int32 → Int32 → Int32 → Int32 → Int32 → Int32 → List Int32 → List Int32 → List Int32 → List Int32 → List Int32 → List Int32 → List Int32 → List Int32 → Bool
  | 0 => fun _ _ _ _ _ _ _ _ _ _ _ _ _ _ _ _ _ _ _ _ => false
  | n + 1 => fun x1 x2 x3 x4 f0_q f0_limit f0_size f0_workSize f0_rows f0_columns f0_rank f0_registerLength a1 a2 a3 a4 a5 a6 a7 a8 => rl_c (rl_le f0_workSize x4) (post x1 f0_q f0_limit f0_size f0_workSize f0_rows f0_columns f0_rank f0_registerLength a1 a2 a3 a4 a5 a6 a7 a8) (rl_wpX_discrepancy (fun r_7 => rl_c (rl_eq r_7 0) (rl_fo (x2 + 1) (fun x2_146 => rl_fo (x4 + 1) (fun x4_147 => rl_wX_shortest_51 post n x1 x2_146 x3 x4_147 f0_q f0_limit f0_size f0_workSize f0_rows f0_columns f0_rank f0_registerLength a1 a2 a3 a4 a5 a6 a7 a8))) (rl_c (rl_lt x4 (2 * x1)) (rl_wpX_mend (fun f0_q_11 f0_limit_12 f0_size_13 f0_workSize_14 f0_rows_15 f0_columns_16 f0_rank_17 f0_registerLength_18 am1241_21 am1242_24 am1243_27 am1244_30 am1245_33 am1246_36 am1247_39 am1248_42 => rl_fo (x2 + 1) (fun x2_43 => rl_fo (x4 + 1) (fun x4_44 => rl_wX_shortest_51 post n x1 x2_43 x3 x4_44 f0_q_11 f0_limit_12 f0_size_13 f0_workSize_14 f0_rows_15 f0_columns_16 f0_rank_17 f0_registerLength_18 am1241_21 am1242_24 am1243_27 am1244_30 am1245_33 am1246_36 am1247_39 am1248_42))) f0_q f0_limit f0_size f0_workSize f0_rows f0_columns f0_rank f0_registerLength a1 a2 a3 a4 a5 a6 a7 a8 r_7 x3 x2) (rl_wpX_keepCopy (fun f0_q_46 f0_limit_47 f0_size_48 f0_workSize_49 f0_rows_50 f0_columns_51 f0_rank_52 f0_registerLength_53 am891_56 am892_59 am893_62 am894_65 am895_68 am896_71 am897_74 am898_77 => rl_wpX_mend (fun f0_q_79 f0_limit_80 f0_size_81 f0_workSize_82 f0_rows_83 f0_columns_84 f0_rank_85 f0_registerLength_86 am971_89 am972_92 am973_95 am974_98 am975_101 am976_104 am977_107 am978_110 => rl_fo ((x4 + 1) - x1) (fun x1_111 => rl_wpX_useCopy (fun f0_q_113 f0_limit_114 f0_size_115 f0_workSize_116 f0_rows_117 f0_columns_118 f0_rank_119 f0_registerLength_120 am1081_123 am1082_126 am1083_129 am1084_132 am1085_135 am1086_138 am1087_141 am1088_144 => rl_fo (x4 + 1) (fun x4_145 => rl_wX_shortest_51 post n x1_111 1 r_7 x4_145 f0_q_113 f0_limit_114 f0_size_115 f0_workSize_116 f0_rows_117 f0_columns_118 f0_rank_119 f0_registerLength_120 am1081_123 am1082_126 am1083_129 am1084_132 am1085_135 am1086_138 am1087_141 am1088_144)) f0_q_79 f0_limit_80 f0_size_81 f0_workSize_82 f0_rows_83 f0_columns_84 f0_rank_85 f0_registerLength_86 am971_89 am972_92 am973_95 am974_98 am975_101 am976_104 am977_107 am978_110)) f0_q_46 f0_limit_47 f0_size_48 f0_workSize_49 f0_rows_50 f0_columns_51 f0_rank_52 f0_registerLength_53 am891_56 am892_59 am893_62 am894_65 am895_68 am896_71 am897_74 am898_77 r_7 x3 x2) f0_q f0_limit f0_size f0_workSize f0_rows f0_columns f0_rank f0_registerLength a1 a2 a3 a4 a5 a6 a7 a8))) f0_q f0_limit f0_size f0_workSize f0_rows f0_columns f0_rank f0_registerLength a1 a2 a3 a4 a5 a6 a7 a8 x4 x1)
noncomputable def rl_wX_shortest_2 (post : rl_K2) (f0_q : Int32) (f0_limit : Int32) (f0_size : Int32) (f0_workSize : Int32) (f0_rows : Int32) (f0_columns : Int32) (f0_rank : Int32) (f0_registerLength : Int32) : Nat → Int32 → List Int32 → List Int32 → List Int32 → List Int32 → List Int32 → List Int32 → List Int32 → List Int32 → Bool
  | 0 => fun _ _ _ _ _ _ _ _ _ => false
  | n + 1 => fun x1 a1 a2 a3 a4 a5 a6 a7 a8 => rl_c (rl_le 32 x1) (rl_st a3 0 1 (fun a3_3 => rl_st a4 0 1 (fun a4_5 => rl_wX_shortest_51 post 40 0 1 1 0 f0_q f0_limit f0_size f0_workSize f0_rows f0_columns f0_rank f0_registerLength a1 a2 a3_3 a4_5 a5 a6 a7 a8))) (rl_c (rl_in x1 32) (rl_st a3 x1.toNatClampNeg 0 (fun a3_149 => rl_c (rl_in x1 32) (rl_st a4 x1.toNatClampNeg 0 (fun a4_151 => rl_fo (x1 + 1) (fun x1_152 => rl_wX_shortest_2 post f0_q f0_limit f0_size f0_workSize f0_rows f0_columns f0_rank f0_registerLength n x1_152 a1 a2 a3_149 a4_151 a5 a6 a7 a8))) false)) false)
noncomputable def rl_wpX_shortest (post : rl_K2) (f0_q : Int32) (f0_limit : Int32) (f0_size : Int32) (f0_workSize : Int32) (f0_rows : Int32) (f0_columns : Int32) (f0_rank : Int32) (f0_registerLength : Int32) (a1 : List Int32) (a2 : List Int32) (a3 : List Int32) (a4 : List Int32) (a5 : List Int32) (a6 : List Int32) (a7 : List Int32) (a8 : List Int32) : Bool :=
  rl_wX_shortest_2 post f0_q f0_limit f0_size f0_workSize f0_rows f0_columns f0_rank f0_registerLength 40 0 a1 a2 a3 a4 a5 a6 a7 a8
noncomputable def rl_wpX_complexity (post : rl_K2) (f0_q : Int32) (f0_limit : Int32) (f0_size : Int32) (f0_workSize : Int32) (f0_rows : Int32) (f0_columns : Int32) (f0_rank : Int32) (f0_registerLength : Int32) (a1 : List Int32) (a2 : List Int32) (a3 : List Int32) (a4 : List Int32) (a5 : List Int32) (a6 : List Int32) (a7 : List Int32) (a8 : List Int32) (p0 : Int32) (p1 : Int32) : Bool :=
  rl_c (rl_lt p0 0) (post (-1) f0_q f0_limit f0_size f0_workSize f0_rows f0_columns f0_rank f0_registerLength a1 a2 a3 a4 a5 a6 a7 a8) (rl_c (rl_lt f0_size p1) (post (-1) f0_q f0_limit f0_size f0_workSize f0_rows f0_columns f0_rank f0_registerLength a1 a2 a3 a4 a5 a6 a7 a8) (rl_c (rl_le p0 p1) (rl_wpX_take (fun f0_q_5 f0_limit_6 f0_size_7 f0_workSize_8 f0_rows_9 f0_columns_10 f0_rank_11 f0_registerLength_12 am221_15 am222_18 am223_21 am224_24 am225_27 am226_30 am227_33 am228_36 => rl_wpX_shortest (fun r_37 f0_q_38 f0_limit_39 f0_size_40 f0_workSize_41 f0_rows_42 f0_columns_43 f0_rank_44 f0_registerLength_45 am261_48 am262_51 am263_54 am264_57 am265_60 am266_63 am267_66 am268_69 => post r_37 f0_q_38 f0_limit_39 f0_size_40 f0_workSize_41 f0_rows_42 f0_columns_43 f0_rank_44 f0_registerLength_45 am261_48 am262_51 am263_54 am264_57 am265_60 am266_63 am267_66 am268_69) f0_q_5 f0_limit_6 f0_size_7 f0_workSize_8 f0_rows_9 f0_columns_10 f0_rank_11 f0_registerLength_12 am221_15 am222_18 am223_21 am224_24 am225_27 am226_30 am227_33 am228_36) f0_q f0_limit f0_size f0_workSize f0_rows f0_columns f0_rank f0_registerLength a1 a2 a3 a4 a5 a6 a7 a8 p0 p1) (post (-1) f0_q f0_limit f0_size f0_workSize f0_rows f0_columns f0_rank f0_registerLength a1 a2 a3 a4 a5 a6 a7 a8)))
noncomputable def rl_wX_rowWith_5 (post : rl_K0) (x1 : Int32) (f0_q : Int32) (f0_limit : Int32) (f0_size : Int32) (f0_workSize : Int32) (f0_rows : Int32) (f0_columns : Int32) (f0_rank : Int32) (f0_registerLength : Int32) (a1 : List Int32) (a2 : List Int32) (a3 : List Int32) (a4 : List Int32) (a5 : List Int32) (a6 : List Int32) (a7 : List Int32) (a8 : List Int32) : Nat → Int32 → Bool
  | 0 => fun _ => false
  | n + 1 => fun x2 => rl_c (rl_le f0_rows x2) (post (-1)) (rl_c (rl_in ((x2 * 14) + x1) 196) (rl_c (rl_eq (rl_f a6 ((x2 * 14) + x1).toNatClampNeg) 0) (rl_fo (x2 + 1) (fun x2_4 => rl_wX_rowWith_5 post x1 f0_q f0_limit f0_size f0_workSize f0_rows f0_columns f0_rank f0_registerLength a1 a2 a3 a4 a5 a6 a7 a8 n x2_4)) (post x2)) false)
noncomputable def rl_wpX_rowWith (post : rl_K0) (f0_q : Int32) (f0_limit : Int32) (f0_size : Int32) (f0_workSize : Int32) (f0_rows : Int32) (f0_columns : Int32) (f0_rank : Int32) (f0_registerLength : Int32) (a1 : List Int32) (a2 : List Int32) (a3 : List Int32) (a4 : List Int32) (a5 : List Int32) (a6 : List Int32) (a7 : List Int32) (a8 : List Int32) (p0 : Int32) : Bool :=
  rl_wX_rowWith_5 post p0 f0_q f0_limit f0_size f0_workSize f0_rows f0_columns f0_rank f0_registerLength a1 a2 a3 a4 a5 a6 a7 a8 40 f0_rank
noncomputable def rl_wX_swap_2 (post : rl_K1) (x1 : Int32) (x2 : Int32) (f0_q : Int32) (f0_limit : Int32) (f0_size : Int32) (f0_workSize : Int32) (f0_rows : Int32) (f0_columns : Int32) (f0_rank : Int32) (f0_registerLength : Int32) : Nat → Int32 → List Int32 → List Int32 → List Int32 → List Int32 → List Int32 → List Int32 → List Int32 → List Int32 → Bool
  | 0 => fun _ _ _ _ _ _ _ _ _ => false
  | n + 1 => fun x3 a1 a2 a3 a4 a5 a6 a7 a8 => rl_c (rl_lt f0_columns x3) (post f0_q f0_limit f0_size f0_workSize f0_rows f0_columns f0_rank f0_registerLength a1 a2 a3 a4 a5 a6 a7 a8) (rl_c (rl_in ((x1 * 14) + x3) 196) (rl_fo (rl_f a6 ((x1 * 14) + x3).toNatClampNeg) (fun x4_3 => rl_c (rl_in ((x2 * 14) + x3) 196) (rl_c (rl_in ((x1 * 14) + x3) 196) (rl_st a6 (((x1 * 14) + x3).toNatClampNeg) (vp_nar .byte (rl_f a6 ((x2 * 14) + x3).toNatClampNeg)) (fun a6_6 => rl_c (rl_in ((x2 * 14) + x3) 196) (rl_st a6_6 (((x2 * 14) + x3).toNatClampNeg) (vp_nar .byte x4_3) (fun a6_8 => rl_fo (x3 + 1) (fun x3_9 => rl_wX_swap_2 post x1 x2 f0_q f0_limit f0_size f0_workSize f0_rows f0_columns f0_rank f0_registerLength n x3_9 a1 a2 a3 a4 a5 a6_8 a7 a8))) false)) false) false)) false)
noncomputable def rl_wpX_swap (post : rl_K1) (f0_q : Int32) (f0_limit : Int32) (f0_size : Int32) (f0_workSize : Int32) (f0_rows : Int32) (f0_columns : Int32) (f0_rank : Int32) (f0_registerLength : Int32) (a1 : List Int32) (a2 : List Int32) (a3 : List Int32) (a4 : List Int32) (a5 : List Int32) (a6 : List Int32) (a7 : List Int32) (a8 : List Int32) (p0 : Int32) (p1 : Int32) : Bool :=
  rl_wX_swap_2 post p0 p1 f0_q f0_limit f0_size f0_workSize f0_rows f0_columns f0_rank f0_registerLength 40 0 a1 a2 a3 a4 a5 a6 a7 a8
noncomputable def rl_wX_scale_19 (post : rl_K1) (x1 : Int32) (x3 : Int32) (f0_q : Int32) (f0_limit : Int32) (f0_size : Int32) (f0_workSize : Int32) (f0_rows : Int32) (f0_columns : Int32) (f0_rank : Int32) (f0_registerLength : Int32) : Nat → Int32 → List Int32 → List Int32 → List Int32 → List Int32 → List Int32 → List Int32 → List Int32 → List Int32 → Bool
  | 0 => fun _ _ _ _ _ _ _ _ _ => false
  | n + 1 => fun x4 a1 a2 a3 a4 a5 a6 a7 a8 => rl_c (rl_lt f0_columns x4) (post f0_q f0_limit f0_size f0_workSize f0_rows f0_columns f0_rank f0_registerLength a1 a2 a3 a4 a5 a6 a7 a8) (rl_c (rl_in ((x1 * 14) + x4) 196) (rl_c (rl_eq f0_q 0) false (rl_c (rl_in ((x1 * 14) + x4) 196) (rl_st a6 (((x1 * 14) + x4).toNatClampNeg) ((((rl_f a6 ((x1 * 14) + x4).toNatClampNeg) * x3) - ((rl_f a6 ((x1 * 14) + x4).toNatClampNeg) * x3) / f0_q * f0_q).toInt8.toInt32) (fun a6_7 => rl_fo (x4 + 1) (fun x4_8 => rl_wX_scale_19 post x1 x3 f0_q f0_limit f0_size f0_workSize f0_rows f0_columns f0_rank f0_registerLength n x4_8 a1 a2 a3 a4 a5 a6_7 a7 a8))) false)) false)
noncomputable def rl_wpX_scale (post : rl_K1) (f0_q : Int32) (f0_limit : Int32) (f0_size : Int32) (f0_workSize : Int32) (f0_rows : Int32) (f0_columns : Int32) (f0_rank : Int32) (f0_registerLength : Int32) (a1 : List Int32) (a2 : List Int32) (a3 : List Int32) (a4 : List Int32) (a5 : List Int32) (a6 : List Int32) (a7 : List Int32) (a8 : List Int32) (p0 : Int32) (p1 : Int32) : Bool :=
  rl_c (rl_in ((p0 * 14) + p1) 196) (rl_fo (rl_f a6 ((p0 * 14) + p1).toNatClampNeg) (fun y_1 => rl_wpX_inverse (fun r_2 => rl_wX_scale_19 post p0 r_2 f0_q f0_limit f0_size f0_workSize f0_rows f0_columns f0_rank f0_registerLength 40 0 a1 a2 a3 a4 a5 a6 a7 a8) f0_q f0_limit f0_size f0_workSize f0_rows f0_columns f0_rank f0_registerLength a1 a2 a3 a4 a5 a6 a7 a8 y_1)) false
noncomputable def rl_wX_subtract_3 (post : rl_K1) (x1 : Int32) (x2 : Int32) (x3 : Int32) (f0_q : Int32) (f0_limit : Int32) (f0_size : Int32) (f0_workSize : Int32) (f0_rows : Int32) (f0_columns : Int32) (f0_rank : Int32) (f0_registerLength : Int32) : Nat → Int32 → List Int32 → List Int32 → List Int32 → List Int32 → List Int32 → List Int32 → List Int32 → List Int32 → Bool
  | 0 => fun _ _ _ _ _ _ _ _ _ => false
  | n + 1 => fun x4 a1 a2 a3 a4 a5 a6 a7 a8 => rl_c (rl_lt f0_columns x4) (post f0_q f0_limit f0_size f0_workSize f0_rows f0_columns f0_rank f0_registerLength a1 a2 a3 a4 a5 a6 a7 a8) (rl_c (rl_in ((x1 * 14) + x4) 196) (rl_c (rl_in ((x2 * 14) + x4) 196) (rl_fo ((rl_f a6 ((x1 * 14) + x4).toNatClampNeg) - (x3 * (rl_f a6 ((x2 * 14) + x4).toNatClampNeg))) (fun x5_4 => rl_wpX_wrap (fun r_5 => rl_c (rl_in ((x1 * 14) + x4) 196) (rl_st a6 (((x1 * 14) + x4).toNatClampNeg) r_5.toInt8.toInt32 (fun a6_7 => rl_fo (x4 + 1) (fun x4_8 => rl_wX_subtract_3 post x1 x2 x3 f0_q f0_limit f0_size f0_workSize f0_rows f0_columns f0_rank f0_registerLength n x4_8 a1 a2 a3 a4 a5 a6_7 a7 a8))) false) f0_q f0_limit f0_size f0_workSize f0_rows f0_columns f0_rank f0_registerLength a1 a2 a3 a4 a5 a6 a7 a8 x5_4)) false) false)
noncomputable def rl_wpX_subtract (post : rl_K1) (f0_q : Int32) (f0_limit : Int32) (f0_size : Int32) (f0_workSize : Int32) (f0_rows : Int32) (f0_columns : Int32) (f0_rank : Int32) (f0_registerLength : Int32) (a1 : List Int32) (a2 : List Int32) (a3 : List Int32) (a4 : List Int32) (a5 : List Int32) (a6 : List Int32) (a7 : List Int32) (a8 : List Int32) (p0 : Int32) (p1 : Int32) (p2 : Int32) : Bool :=
  rl_wX_subtract_3 post p0 p1 p2 f0_q f0_limit f0_size f0_workSize f0_rows f0_columns f0_rank f0_registerLength 40 0 a1 a2 a3 a4 a5 a6 a7 a8
noncomputable def rl_wX_clearColumn_2 (post : rl_K1) (x1 : Int32) (x2 : Int32) : Nat → Int32 → Int32 → Int32 → Int32 → Int32 → Int32 → Int32 → Int32 → Int32 → List Int32 → List Int32 → List Int32 → List Int32 → List Int32 → List Int32 → List Int32 → List Int32 → Bool
  | 0 => fun _ _ _ _ _ _ _ _ _ _ _ _ _ _ _ _ _ => false
  | n + 1 => fun x3 f0_q f0_limit f0_size f0_workSize f0_rows f0_columns f0_rank f0_registerLength a1 a2 a3 a4 a5 a6 a7 a8 => rl_c (rl_le f0_rows x3) (post f0_q f0_limit f0_size f0_workSize f0_rows f0_columns f0_rank f0_registerLength a1 a2 a3 a4 a5 a6 a7 a8) (rl_c (rl_in ((x3 * 14) + x2) 196) (rl_fo (rl_f a6 ((x3 * 14) + x2).toNatClampNeg) (fun x4_3 => rl_c (rl_eq x3 x1) (rl_fo (x3 + 1) (fun x3_5 => rl_wX_clearColumn_2 post x1 x2 n x3_5 f0_q f0_limit f0_size f0_workSize f0_rows f0_columns f0_rank f0_registerLength a1 a2 a3 a4 a5 a6 a7 a8)) (rl_c (rl_eq x4_3 0) (rl_fo (x3 + 1) (fun x3_7 => rl_wX_clearColumn_2 post x1 x2 n x3_7 f0_q f0_limit f0_size f0_workSize f0_rows f0_columns f0_rank f0_registerLength a1 a2 a3 a4 a5 a6 a7 a8)) (rl_wpX_subtract (fun f0_q_9 f0_limit_10 f0_size_11 f0_workSize_12 f0_rows_13 f0_columns_14 f0_rank_15 f0_registerLength_16 am381_19 am382_22 am383_25 am384_28 am385_31 am386_34 am387_37 am388_40 => rl_fo (x3 + 1) (fun x3_41 => rl_wX_clearColumn_2 post x1 x2 n x3_41 f0_q_9 f0_limit_10 f0_size_11 f0_workSize_12 f0_rows_13 f0_columns_14 f0_rank_15 f0_registerLength_16 am381_19 am382_22 am383_25 am384_28 am385_31 am386_34 am387_37 am388_40)) f0_q f0_limit f0_size f0_workSize f0_rows f0_columns f0_rank f0_registerLength a1 a2 a3 a4 a5 a6 a7 a8 x3 x1 x4_3)))) false)
noncomputable def rl_wpX_clearColumn (post : rl_K1) (f0_q : Int32) (f0_limit : Int32) (f0_size : Int32) (f0_workSize : Int32) (f0_rows : Int32) (f0_columns : Int32) (f0_rank : Int32) (f0_registerLength : Int32) (a1 : List Int32) (a2 : List Int32) (a3 : List Int32) (a4 : List Int32) (a5 : List Int32) (a6 : List Int32) (a7 : List Int32) (a8 : List Int32) (p0 : Int32) (p1 : Int32) : Bool :=
  rl_wX_clearColumn_2 post p0 p1 40 0 f0_q f0_limit f0_size f0_workSize f0_rows f0_columns f0_rank f0_registerLength a1 a2 a3 a4 a5 a6 a7 a8
noncomputable def rl_wX_eliminate_12 (post : rl_K1)  : Nat → Int32 → Int32 → Int32 → Int32 → Int32 → Int32 → Int32 → Int32 → Int32 → List Int32 → List Int32 → List Int32 → List Int32 → List Int32 → List Int32 → List Int32 → List Int32 → Bool
  | 0 => fun _ _ _ _ _ _ _ _ _ _ _ _ _ _ _ _ _ => false
  | n + 1 => fun x1 f0_q f0_limit f0_size f0_workSize f0_rows f0_columns f0_rank f0_registerLength a1 a2 a3 a4 a5 a6 a7 a8 => rl_c (rl_lt x1 0) (post f0_q f0_limit f0_size f0_workSize f0_rows f0_columns f0_rank f0_registerLength a1 a2 a3 a4 a5 a6 a7 a8) (rl_c (rl_in x1 14) (rl_st a7 x1.toNatClampNeg (-1) (fun a7_4 => rl_wpX_rowWith (fun r_5 => rl_c (rl_lt r_5 0) (rl_fo (x1 + (-1)) (fun x1_7 => rl_wX_eliminate_12 post n x1_7 f0_q f0_limit f0_size f0_workSize f0_rows f0_columns f0_rank f0_registerLength a1 a2 a3 a4 a5 a6 a7_4 a8)) (rl_wpX_swap (fun f0_q_9 f0_limit_10 f0_size_11 f0_workSize_12 f0_rows_13 f0_columns_14 f0_rank_15 f0_registerLength_16 am391_19 am392_22 am393_25 am394_28 am395_31 am396_34 am397_37 am398_40 => rl_wpX_scale (fun f0_q_42 f0_limit_43 f0_size_44 f0_workSize_45 f0_rows_46 f0_columns_47 f0_rank_48 f0_registerLength_49 am481_52 am482_55 am483_58 am484_61 am485_64 am486_67 am487_70 am488_73 => rl_wpX_clearColumn (fun f0_q_75 f0_limit_76 f0_size_77 f0_workSize_78 f0_rows_79 f0_columns_80 f0_rank_81 f0_registerLength_82 am571_85 am572_88 am573_91 am574_94 am575_97 am576_100 am577_103 am578_106 => rl_c (rl_in x1 14) (rl_st am577_103 x1.toNatClampNeg f0_rank_81.toInt8.toInt32 (fun am577_108 => rl_fo (f0_rank_81 + 1) (fun f_109 => rl_fo (x1 + (-1)) (fun x1_110 => rl_wX_eliminate_12 post n x1_110 f0_q_75 f0_limit_76 f0_size_77 f0_workSize_78 f0_rows_79 f0_columns_80 f_109 f0_registerLength_82 am571_85 am572_88 am573_91 am574_94 am575_97 am576_100 am577_108 am578_106)))) false) f0_q_42 f0_limit_43 f0_size_44 f0_workSize_45 f0_rows_46 f0_columns_47 f0_rank_48 f0_registerLength_49 am481_52 am482_55 am483_58 am484_61 am485_64 am486_67 am487_70 am488_73 f0_rank_48 x1) f0_q_9 f0_limit_10 f0_size_11 f0_workSize_12 f0_rows_13 f0_columns_14 f0_rank_15 f0_registerLength_16 am391_19 am392_22 am393_25 am394_28 am395_31 am396_34 am397_37 am398_40 f0_rank_15 x1) f0_q f0_limit f0_size f0_workSize f0_rows f0_columns f0_rank f0_registerLength a1 a2 a3 a4 a5 a6 a7_4 a8 r_5 f0_rank)) f0_q f0_limit f0_size f0_workSize f0_rows f0_columns f0_rank f0_registerLength a1 a2 a3 a4 a5 a6 a7_4 a8 x1)) false)
noncomputable def rl_wpX_eliminate (post : rl_K1) (f0_q : Int32) (f0_limit : Int32) (f0_size : Int32) (f0_workSize : Int32) (f0_rows : Int32) (f0_columns : Int32) (f0_rank : Int32) (f0_registerLength : Int32) (a1 : List Int32) (a2 : List Int32) (a3 : List Int32) (a4 : List Int32) (a5 : List Int32) (a6 : List Int32) (a7 : List Int32) (a8 : List Int32) : Bool :=
  rl_fo (f0_columns - 1) (fun x1_1 => rl_wX_eliminate_12 post 40 x1_1 f0_q f0_limit f0_size f0_workSize f0_rows f0_columns 0 f0_registerLength a1 a2 a3 a4 a5 a6 a7 a8)
noncomputable def rl_wX_findRegister_124 (post : rl_K1) (f0_q : Int32) (f0_limit : Int32) (f0_size : Int32) (f0_workSize : Int32) (f0_rows : Int32) (f0_columns : Int32) (f0_rank : Int32) (f0_registerLength : Int32) : Nat → Int32 → List Int32 → List Int32 → List Int32 → List Int32 → List Int32 → List Int32 → List Int32 → List Int32 → Bool
  | 0 => fun _ _ _ _ _ _ _ _ _ => false
  | n + 1 => fun x2 am1191 am1192 am1193 am1194 am1195 am1196 am1197 am1198 => rl_c (rl_le f0_columns x2) (post f0_q f0_limit f0_size f0_workSize f0_rows f0_columns f0_rank f0_registerLength am1191 am1192 am1193 am1194 am1195 am1196 am1197 am1198) (rl_c (rl_in x2 14) (rl_fo (rl_f am1197 x2.toNatClampNeg) (fun x3_104 => rl_c (rl_le 0 x3_104) (rl_c (rl_in ((x3_104 * 14) + f0_columns) 196) (rl_c (rl_in (x2 + 1) 14) (rl_st am1198 ((x2 + 1).toNatClampNeg) (vp_nar .byte (rl_f am1196 ((x3_104 * 14) + f0_columns).toNatClampNeg)) (fun am1198_108 => rl_fo (x2 + 1) (fun x2_109 => rl_wX_findRegister_124 post f0_q f0_limit f0_size f0_workSize f0_rows f0_columns f0_rank f0_registerLength n x2_109 am1191 am1192 am1193 am1194 am1195 am1196 am1197 am1198_108))) false) false) (rl_c (rl_in (x2 + 1) 14) (rl_st am1198 ((x2 + 1).toNatClampNeg) 0 (fun am1198_111 => rl_fo (x2 + 1) (fun x2_112 => rl_wX_findRegister_124 post f0_q f0_limit f0_size f0_workSize f0_rows f0_columns f0_rank f0_registerLength n x2_112 am1191 am1192 am1193 am1194 am1195 am1196 am1197 am1198_111))) false))) false)
noncomputable def rl_wX_findRegister_47 (post : rl_K1) (J37 : Int32 → List Int32 → List Int32 → List Int32 → List Int32 → List Int32 → List Int32 → List Int32 → List Int32 → Bool) (x2 : Int32) (f0_q : Int32) (f0_limit : Int32) (f0_size : Int32) (f0_workSize : Int32) (f0_rows : Int32) (f0_columns : Int32) (f0_rank : Int32) (f0_registerLength : Int32) : Nat → Int32 → List Int32 → List Int32 → List Int32 → List Int32 → List Int32 → List Int32 → List Int32 → List Int32 → Bool
  | 0 => fun _ _ _ _ _ _ _ _ _ => false
  | n + 1 => fun x3 am81 am82 am83 am84 am85 am86 am87 am88 => rl_c (rl_lt f0_columns x3) (rl_c (rl_in (f0_registerLength + x2) 64) (rl_c (rl_in ((x2 * 14) + f0_columns) 196) (rl_st am86 (((x2 * 14) + f0_columns).toNatClampNeg) (vp_nar .byte (rl_f am82 (f0_registerLength + x2).toNatClampNeg)) (fun am86_116 => rl_fo (x2 + 1) (fun x2_117 => J37 x2_117 am81 am82 am83 am84 am85 am86_116 am87 am88))) false) false) (rl_c (rl_in ((f0_registerLength + x2) - x3) 64) (rl_c (rl_in (((x2 * 14) + x3) - 1) 196) (rl_st am86 ((((x2 * 14) + x3) - 1).toNatClampNeg) (vp_nar .byte (rl_f am82 ((f0_registerLength + x2) - x3).toNatClampNeg)) (fun am86_120 => rl_fo (x3 + 1) (fun x3_121 => rl_wX_findRegister_47 post J37 x2 f0_q f0_limit f0_size f0_workSize f0_rows f0_columns f0_rank f0_registerLength n x3_121 am81 am82 am83 am84 am85 am86_120 am87 am88))) false) false)
noncomputable def rl_wX_findRegister_37 (post : rl_K1) (f0_q : Int32) (f0_limit : Int32) (f0_size : Int32) (f0_workSize : Int32) (f0_rows : Int32) (f0_columns : Int32) (f0_rank : Int32) (f0_registerLength : Int32) : Nat → Int32 → List Int32 → List Int32 → List Int32 → List Int32 → List Int32 → List Int32 → List Int32 → List Int32 → Bool
  | 0 => fun _ _ _ _ _ _ _ _ _ => false
  | n + 1 => fun x2 am81 am82 am83 am84 am85 am86 am87 am88 => rl_c (rl_le f0_rows x2) (rl_wpX_eliminate (fun f0_q_70 f0_limit_71 f0_size_72 f0_workSize_73 f0_rows_74 f0_columns_75 f0_rank_76 f0_registerLength_77 am1191_80 am1192_83 am1193_86 am1194_89 am1195_92 am1196_95 am1197_98 am1198_101 => rl_wX_findRegister_124 post f0_q_70 f0_limit_71 f0_size_72 f0_workSize_73 f0_rows_74 f0_columns_75 f0_rank_76 f0_registerLength_77 40 0 am1191_80 am1192_83 am1193_86 am1194_89 am1195_92 am1196_95 am1197_98 am1198_101) f0_q f0_limit f0_size f0_workSize f0_rows f0_columns f0_rank f0_registerLength am81 am82 am83 am84 am85 am86 am87 am88) (rl_wX_findRegister_47 post (rl_wX_findRegister_37 post f0_q f0_limit f0_size f0_workSize f0_rows f0_columns f0_rank f0_registerLength n) x2 f0_q f0_limit f0_size f0_workSize f0_rows f0_columns f0_rank f0_registerLength 40 1 am81 am82 am83 am84 am85 am86 am87 am88)
noncomputable def rl_wpX_findRegister (post : rl_K1) (f0_q : Int32) (f0_limit : Int32) (f0_size : Int32) (f0_workSize : Int32) (f0_rows : Int32) (f0_columns : Int32) (f0_rank : Int32) (f0_registerLength : Int32) (a1 : List Int32) (a2 : List Int32) (a3 : List Int32) (a4 : List Int32) (a5 : List Int32) (a6 : List Int32) (a7 : List Int32) (a8 : List Int32) (p0 : Int32) : Bool :=
  rl_wpX_take (fun f0_q_2 f0_limit_3 f0_size_4 f0_workSize_5 f0_rows_6 f0_columns_7 f0_rank_8 f0_registerLength_9 am31_12 am32_15 am33_18 am34_21 am35_24 am36_27 am37_30 am38_33 => rl_wpX_shortest (fun r_34 f0_q_35 f0_limit_36 f0_size_37 f0_workSize_38 f0_rows_39 f0_columns_40 f0_rank_41 f0_registerLength_42 am81_45 am82_48 am83_51 am84_54 am85_57 am86_60 am87_63 am88_66 => rl_fo (f0_workSize_38 - r_34) (fun f_67 => rl_wX_findRegister_37 post f0_q_35 f0_limit_36 f0_size_37 f0_workSize_38 f_67 r_34 f0_rank_41 r_34 40 0 am81_45 am82_48 am83_51 am84_54 am85_57 am86_60 am87_63 am88_66)) f0_q_2 f0_limit_3 f0_size_4 f0_workSize_5 f0_rows_6 f0_columns_7 f0_rank_8 f0_registerLength_9 am31_12 am32_15 am33_18 am34_21 am35_24 am36_27 am37_30 am38_33) f0_q f0_limit f0_size f0_workSize f0_rows f0_columns f0_rank f0_registerLength a1 a2 a3 a4 a5 a6 a7 a8 0 p0
noncomputable def rl_wX_registers_15 (post : rl_K2) (f0_q : Int32) (f0_limit : Int32) (f0_size : Int32) (f0_workSize : Int32) (f0_rows : Int32) (f0_columns : Int32) (f0_rank : Int32) (f0_registerLength : Int32) (am51 : List Int32) (am52 : List Int32) (am53 : List Int32) (am54 : List Int32) (am55 : List Int32) (am56 : List Int32) (am57 : List Int32) (am58 : List Int32) : Nat → Int32 → Int32 → Bool
  | 0 => fun _ _ => false
  | n + 1 => fun x1 x2 => rl_c (rl_le f0_columns x2) (post x1 f0_q f0_limit f0_size f0_workSize f0_rows f0_columns f0_rank f0_registerLength am51 am52 am53 am54 am55 am56 am57 am58) (rl_fo (x1 * f0_q) (fun x1_35 => rl_fo (x2 + 1) (fun x2_36 => rl_wX_registers_15 post f0_q f0_limit f0_size f0_workSize f0_rows f0_columns f0_rank f0_registerLength am51 am52 am53 am54 am55 am56 am57 am58 n x1_35 x2_36)))
noncomputable def rl_wpX_registers (post : rl_K2) (f0_q : Int32) (f0_limit : Int32) (f0_size : Int32) (f0_workSize : Int32) (f0_rows : Int32) (f0_columns : Int32) (f0_rank : Int32) (f0_registerLength : Int32) (a1 : List Int32) (a2 : List Int32) (a3 : List Int32) (a4 : List Int32) (a5 : List Int32) (a6 : List Int32) (a7 : List Int32) (a8 : List Int32) : Bool :=
  rl_wpX_findRegister (fun f0_q_2 f0_limit_3 f0_size_4 f0_workSize_5 f0_rows_6 f0_columns_7 f0_rank_8 f0_registerLength_9 am51_12 am52_15 am53_18 am54_21 am55_24 am56_27 am57_30 am58_33 => rl_wX_registers_15 post f0_q_2 f0_limit_3 f0_size_4 f0_workSize_5 f0_rows_6 f0_columns_7 f0_rank_8 f0_registerLength_9 am51_12 am52_15 am53_18 am54_21 am55_24 am56_27 am57_30 am58_33 40 1 f0_rank_8) f0_q f0_limit f0_size f0_workSize f0_rows f0_columns f0_rank f0_registerLength a1 a2 a3 a4 a5 a6 a7 a8 f0_size
noncomputable def rl_wpX_coefficient (post : rl_K2) (f0_q : Int32) (f0_limit : Int32) (f0_size : Int32) (f0_workSize : Int32) (f0_rows : Int32) (f0_columns : Int32) (f0_rank : Int32) (f0_registerLength : Int32) (a1 : List Int32) (a2 : List Int32) (a3 : List Int32) (a4 : List Int32) (a5 : List Int32) (a6 : List Int32) (a7 : List Int32) (a8 : List Int32) (p0 : Int32) : Bool :=
  rl_wpX_findRegister (fun f0_q_2 f0_limit_3 f0_size_4 f0_workSize_5 f0_rows_6 f0_columns_7 f0_rank_8 f0_registerLength_9 am51_12 am52_15 am53_18 am54_21 am55_24 am56_27 am57_30 am58_33 => rl_c (rl_lt p0 1) (post (-1) f0_q_2 f0_limit_3 f0_size_4 f0_workSize_5 f0_rows_6 f0_columns_7 f0_rank_8 f0_registerLength_9 am51_12 am52_15 am53_18 am54_21 am55_24 am56_27 am57_30 am58_33) (rl_c (rl_le p0 f0_registerLength_9) (rl_c (rl_in p0 14) (rl_fo (rl_f am58_33 p0.toNatClampNeg) (fun y_1 => post y_1 f0_q_2 f0_limit_3 f0_size_4 f0_workSize_5 f0_rows_6 f0_columns_7 f0_rank_8 f0_registerLength_9 am51_12 am52_15 am53_18 am54_21 am55_24 am56_27 am57_30 am58_33)) false) (post (-1) f0_q_2 f0_limit_3 f0_size_4 f0_workSize_5 f0_rows_6 f0_columns_7 f0_rank_8 f0_registerLength_9 am51_12 am52_15 am53_18 am54_21 am55_24 am56_27 am57_30 am58_33))) f0_q f0_limit f0_size f0_workSize f0_rows f0_columns f0_rank f0_registerLength a1 a2 a3 a4 a5 a6 a7 a8 f0_size
noncomputable def rl_wX_step_4 (post : rl_K1) (f0_q : Int32) (f0_limit : Int32) (f0_size : Int32) (f0_workSize : Int32) (f0_rows : Int32) (f0_columns : Int32) (f0_rank : Int32) (f0_registerLength : Int32) (a1 : List Int32) (a2 : List Int32) (a3 : List Int32) (a4 : List Int32) (a5 : List Int32) (a6 : List Int32) (a7 : List Int32) (a8 : List Int32) : Nat → Int32 → Int32 → Bool
  | 0 => fun _ _ => false
  | n + 1 => fun x1 x2 => rl_c (rl_lt f0_registerLength x2) (rl_c (rl_eq f0_q 0) false (rl_c (rl_in f0_workSize 64) (rl_st a2 f0_workSize.toNatClampNeg ((x1 - x1 / f0_q * f0_q).toInt8.toInt32) (fun a2_4 => rl_fo (f0_workSize + 1) (fun f_5 => post f0_q f0_limit f0_size f_5 f0_rows f0_columns f0_rank f0_registerLength a1 a2_4 a3 a4 a5 a6 a7 a8))) false)) (rl_c (rl_in x2 14) (rl_c (rl_in (f0_workSize - x2) 64) (rl_fo (x1 + ((rl_f a8 x2.toNatClampNeg) * (rl_f a2 (f0_workSize - x2).toNatClampNeg))) (fun x1_8 => rl_fo (x2 + 1) (fun x2_9 => rl_wX_step_4 post f0_q f0_limit f0_size f0_workSize f0_rows f0_columns f0_rank f0_registerLength a1 a2 a3 a4 a5 a6 a7 a8 n x1_8 x2_9))) false) false)
noncomputable def rl_wpX_step (post : rl_K1) (f0_q : Int32) (f0_limit : Int32) (f0_size : Int32) (f0_workSize : Int32) (f0_rows : Int32) (f0_columns : Int32) (f0_rank : Int32) (f0_registerLength : Int32) (a1 : List Int32) (a2 : List Int32) (a3 : List Int32) (a4 : List Int32) (a5 : List Int32) (a6 : List Int32) (a7 : List Int32) (a8 : List Int32) : Bool :=
  rl_wX_step_4 post f0_q f0_limit f0_size f0_workSize f0_rows f0_columns f0_rank f0_registerLength a1 a2 a3 a4 a5 a6 a7 a8 40 0 1
noncomputable def rl_wX_predict_22 (post : rl_K2) (x1 : Int32) : Nat → Int32 → Int32 → Int32 → Int32 → Int32 → Int32 → Int32 → Int32 → Int32 → List Int32 → List Int32 → List Int32 → List Int32 → List Int32 → List Int32 → List Int32 → List Int32 → Bool
  | 0 => fun _ _ _ _ _ _ _ _ _ _ _ _ _ _ _ _ _ => false
  | n + 1 => fun x2 f0_q f0_limit f0_size f0_workSize f0_rows f0_columns f0_rank f0_registerLength am171 am172 am173 am174 am175 am176 am177 am178 => rl_c (rl_lt x1 x2) (rl_c (rl_in (f0_workSize - 1) 64) (rl_fo (rl_f am172 (f0_workSize - 1).toNatClampNeg) (fun y_1 => post y_1 f0_q f0_limit f0_size f0_workSize f0_rows f0_columns f0_rank f0_registerLength am171 am172 am173 am174 am175 am176 am177 am178)) false) (rl_wpX_step (fun f0_q_39 f0_limit_40 f0_size_41 f0_workSize_42 f0_rows_43 f0_columns_44 f0_rank_45 f0_registerLength_46 am281_49 am282_52 am283_55 am284_58 am285_61 am286_64 am287_67 am288_70 => rl_fo (x2 + 1) (fun x2_71 => rl_wX_predict_22 post x1 n x2_71 f0_q_39 f0_limit_40 f0_size_41 f0_workSize_42 f0_rows_43 f0_columns_44 f0_rank_45 f0_registerLength_46 am281_49 am282_52 am283_55 am284_58 am285_61 am286_64 am287_67 am288_70)) f0_q f0_limit f0_size f0_workSize f0_rows f0_columns f0_rank f0_registerLength am171 am172 am173 am174 am175 am176 am177 am178)
noncomputable def rl_wpX_predict (post : rl_K2) (f0_q : Int32) (f0_limit : Int32) (f0_size : Int32) (f0_workSize : Int32) (f0_rows : Int32) (f0_columns : Int32) (f0_rank : Int32) (f0_registerLength : Int32) (a1 : List Int32) (a2 : List Int32) (a3 : List Int32) (a4 : List Int32) (a5 : List Int32) (a6 : List Int32) (a7 : List Int32) (a8 : List Int32) (p0 : Int32) : Bool :=
  rl_c (rl_lt p0 0) (post (-1) f0_q f0_limit f0_size f0_workSize f0_rows f0_columns f0_rank f0_registerLength a1 a2 a3 a4 a5 a6 a7 a8) (rl_c (rl_le p0 40) (rl_wpX_findRegister (fun f0_q_4 f0_limit_5 f0_size_6 f0_workSize_7 f0_rows_8 f0_columns_9 f0_rank_10 f0_registerLength_11 am171_14 am172_17 am173_20 am174_23 am175_26 am176_29 am177_32 am178_35 => rl_wX_predict_22 post p0 40 0 f0_q_4 f0_limit_5 f0_size_6 f0_workSize_7 f0_rows_8 f0_columns_9 f0_rank_10 f0_registerLength_11 am171_14 am172_17 am173_20 am174_23 am175_26 am176_29 am177_32 am178_35) f0_q f0_limit f0_size f0_workSize f0_rows f0_columns f0_rank f0_registerLength a1 a2 a3 a4 a5 a6 a7 a8 f0_size) (post (-1) f0_q f0_limit f0_size f0_workSize f0_rows f0_columns f0_rank f0_registerLength a1 a2 a3 a4 a5 a6 a7 a8))
noncomputable def rl_wX_complexityBackwards_12 (post : rl_K2) (f0_q : Int32) (f0_limit : Int32) (f0_size : Int32) (f0_rows : Int32) (f0_columns : Int32) (f0_rank : Int32) (f0_registerLength : Int32) : Nat → Int32 → Int32 → List Int32 → List Int32 → List Int32 → List Int32 → List Int32 → List Int32 → List Int32 → List Int32 → Bool
  | 0 => fun _ _ _ _ _ _ _ _ _ _ => false
  | n + 1 => fun x1 f0_workSize a1 a2 a3 a4 a5 a6 a7 a8 => rl_c (rl_lt x1 0) (rl_wpX_shortest (fun r_3 f0_q_4 f0_limit_5 f0_size_6 f0_workSize_7 f0_rows_8 f0_columns_9 f0_rank_10 f0_registerLength_11 am481_14 am482_17 am483_20 am484_23 am485_26 am486_29 am487_32 am488_35 => post r_3 f0_q_4 f0_limit_5 f0_size_6 f0_workSize_7 f0_rows_8 f0_columns_9 f0_rank_10 f0_registerLength_11 am481_14 am482_17 am483_20 am484_23 am485_26 am486_29 am487_32 am488_35) f0_q f0_limit f0_size f0_workSize f0_rows f0_columns f0_rank f0_registerLength a1 a2 a3 a4 a5 a6 a7 a8) (rl_c (rl_in x1 12) (rl_c (rl_in f0_workSize 64) (rl_st a2 f0_workSize.toNatClampNeg (vp_nar .byte (rl_f a1 x1.toNatClampNeg)) (fun a2_38 => rl_fo (f0_workSize + 1) (fun f_39 => rl_fo (x1 + (-1)) (fun x1_40 => rl_wX_complexityBackwards_12 post f0_q f0_limit f0_size f0_rows f0_columns f0_rank f0_registerLength n x1_40 f_39 a1 a2_38 a3 a4 a5 a6 a7 a8)))) false) false)
noncomputable def rl_wpX_complexityBackwards (post : rl_K2) (f0_q : Int32) (f0_limit : Int32) (f0_size : Int32) (f0_workSize : Int32) (f0_rows : Int32) (f0_columns : Int32) (f0_rank : Int32) (f0_registerLength : Int32) (a1 : List Int32) (a2 : List Int32) (a3 : List Int32) (a4 : List Int32) (a5 : List Int32) (a6 : List Int32) (a7 : List Int32) (a8 : List Int32) : Bool :=
  rl_fo (f0_size - 1) (fun x1_1 => rl_wX_complexityBackwards_12 post f0_q f0_limit f0_size f0_rows f0_columns f0_rank f0_registerLength 40 x1_1 0 a1 a2 a3 a4 a5 a6 a7 a8)
noncomputable def rl_wpX_complexityWith (post : rl_K2) (f0_q : Int32) (f0_limit : Int32) (f0_size : Int32) (f0_workSize : Int32) (f0_rows : Int32) (f0_columns : Int32) (f0_rank : Int32) (f0_registerLength : Int32) (a1 : List Int32) (a2 : List Int32) (a3 : List Int32) (a4 : List Int32) (a5 : List Int32) (a6 : List Int32) (a7 : List Int32) (a8 : List Int32) (p0 : Int32) : Bool :=
  rl_wpX_isSymbol (fun r_1 => rl_c (rl_eq r_1 0) (post (-1) f0_q f0_limit f0_size f0_workSize f0_rows f0_columns f0_rank f0_registerLength a1 a2 a3 a4 a5 a6 a7 a8) (rl_wpX_take (fun f0_q_4 f0_limit_5 f0_size_6 f0_workSize_7 f0_rows_8 f0_columns_9 f0_rank_10 f0_registerLength_11 am161_14 am162_17 am163_20 am164_23 am165_26 am166_29 am167_32 am168_35 => rl_c (rl_in f0_workSize_7 64) (rl_st am162_17 f0_workSize_7.toNatClampNeg p0.toInt8.toInt32 (fun am162_37 => rl_fo (f0_workSize_7 + 1) (fun f_38 => rl_wpX_shortest (fun r_39 f0_q_40 f0_limit_41 f0_size_42 f0_workSize_43 f0_rows_44 f0_columns_45 f0_rank_46 f0_registerLength_47 am411_50 am412_53 am413_56 am414_59 am415_62 am416_65 am417_68 am418_71 => post r_39 f0_q_40 f0_limit_41 f0_size_42 f0_workSize_43 f0_rows_44 f0_columns_45 f0_rank_46 f0_registerLength_47 am411_50 am412_53 am413_56 am414_59 am415_62 am416_65 am417_68 am418_71) f0_q_4 f0_limit_5 f0_size_6 f_38 f0_rows_8 f0_columns_9 f0_rank_10 f0_registerLength_11 am161_14 am162_37 am163_20 am164_23 am165_26 am166_29 am167_32 am168_35))) false) f0_q f0_limit f0_size f0_workSize f0_rows f0_columns f0_rank f0_registerLength a1 a2 a3 a4 a5 a6 a7 a8 0 f0_size)) f0_q f0_limit f0_size f0_workSize f0_rows f0_columns f0_rank f0_registerLength a1 a2 a3 a4 a5 a6 a7 a8 p0
noncomputable def rl_wL_lawOf_214 (post : rl_K0) (z0 : Int32) (z1 : Int32) : Bool :=
  rl_c (rl_eq z1 z0) (post 1) (post 0)
noncomputable def rl_wL_lawOf_156 (post : rl_K0) (x4 : Int32) (x6 : Int32) (x7 : Int32) (x8 : Int32) (x9 : Int32) (x10 : Int32) (x11 : Int32) (x12 : Int32) (x13 : Int32) (x14 : Int32) (z0 : Int32) : Bool :=
  rl_c (rl_eq x7 1) (rl_c (rl_eq x8 1) (rl_c (rl_eq x14 0) (post 0) (rl_c (rl_eq x10 (-1)) (rl_c (rl_eq x4 0) false (rl_c (rl_eq x11 ((x9 * x6) - (x9 * x6) / x4 * x4)) (rl_c (rl_eq x12 z0) (rl_c (rl_eq x11 1) (rl_wL_lawOf_214 post 1 x13) (rl_wL_lawOf_214 post 2 x13)) (post 0)) (post 0))) (post 0))) (post 0)) (post 0)
noncomputable def rl_wL_lawOf_144 (post : rl_K0) (x4 : Int32) (x6 : Int32) (x7 : Int32) (x8 : Int32) (x9 : Int32) (x10 : Int32) (x11 : Int32) (x12 : Int32) (x13 : Int32) (z0 : Int32) : Bool :=
  rl_c (rl_eq x6 0) (rl_wL_lawOf_156 post x4 x6 x7 x8 x9 x10 x11 x12 x13 z0 2) (rl_wL_lawOf_156 post x4 x6 x7 x8 x9 x10 x11 x12 x13 z0 1)
noncomputable def rl_wL_lawOf_143 (post : rl_K0) (x4 : Int32) (x6 : Int32) (x7 : Int32) (x8 : Int32) (x9 : Int32) (x10 : Int32) (x11 : Int32) (x12 : Int32) (x13 : Int32) : Bool :=
  rl_wL_lawOf_144 post x4 x6 x7 x8 x9 x10 x11 x12 x13 0
noncomputable def rl_wL_lawOf_27 (post : rl_K0) (x5_44 : Int32) (x6_46 : Int32) (z0 : Int32) (fm0_q : Int32) (fm0_limit : Int32) (fm0_size : Int32) (fm0_workSize : Int32) (fm0_rows : Int32) (fm0_columns : Int32) (fm0_rank : Int32) (fm0_registerLength : Int32) (am51 : List Int32) (am52 : List Int32) (am53 : List Int32) (am54 : List Int32) (am55 : List Int32) (am56 : List Int32) (am57 : List Int32) (am58 : List Int32) : Bool :=
  rl_wpX_append (fun r_47 fm0_q_48 fm0_limit_49 fm0_size_50 fm0_workSize_51 fm0_rows_52 fm0_columns_53 fm0_rank_54 fm0_registerLength_55 am501_58 am502_61 am503_64 am504_67 am505_70 am506_73 am507_76 am508_79 => rl_wpX_append (fun r_80 fm0_q_81 fm0_limit_82 fm0_size_83 fm0_workSize_84 fm0_rows_85 fm0_columns_86 fm0_rank_87 fm0_registerLength_88 am571_91 am572_94 am573_97 am574_100 am575_103 am576_106 am577_109 am578_112 => rl_wpX_complexity (fun r_113 fm0_q_114 fm0_limit_115 fm0_size_116 fm0_workSize_117 fm0_rows_118 fm0_columns_119 fm0_rank_120 fm0_registerLength_121 am641_124 am642_127 am643_130 am644_133 am645_136 am646_139 am647_142 am648_145 => rl_wpX_registers (fun r_146 fm0_q_147 fm0_limit_148 fm0_size_149 fm0_workSize_150 fm0_rows_151 fm0_columns_152 fm0_rank_153 fm0_registerLength_154 am701_157 am702_160 am703_163 am704_166 am705_169 am706_172 am707_175 am708_178 => rl_wpX_coefficient (fun r_179 fm0_q_180 fm0_limit_181 fm0_size_182 fm0_workSize_183 fm0_rows_184 fm0_columns_185 fm0_rank_186 fm0_registerLength_187 am771_190 am772_193 am773_196 am774_199 am775_202 am776_205 am777_208 am778_211 => rl_wpX_coefficient (fun r_212 fm0_q_213 fm0_limit_214 fm0_size_215 fm0_workSize_216 fm0_rows_217 fm0_columns_218 fm0_rank_219 fm0_registerLength_220 am841_223 am842_226 am843_229 am844_232 am845_235 am846_238 am847_241 am848_244 => rl_wpX_predict (fun r_245 fm0_q_246 fm0_limit_247 fm0_size_248 fm0_workSize_249 fm0_rows_250 fm0_columns_251 fm0_rank_252 fm0_registerLength_253 am911_256 am912_259 am913_262 am914_265 am915_268 am916_271 am917_274 am918_277 => rl_wpX_complexityBackwards (fun r_278 fm0_q_279 fm0_limit_280 fm0_size_281 fm0_workSize_282 fm0_rows_283 fm0_columns_284 fm0_rank_285 fm0_registerLength_286 am971_289 am972_292 am973_295 am974_298 am975_301 am976_304 am977_307 am978_310 => rl_wpX_complexityWith (fun r_311 fm0_q_312 fm0_limit_313 fm0_size_314 fm0_workSize_315 fm0_rows_316 fm0_columns_317 fm0_rank_318 fm0_registerLength_319 am1041_322 am1042_325 am1043_328 am1044_331 am1045_334 am1046_337 am1047_340 am1048_343 => rl_c (rl_eq x5_44 0) (rl_c (rl_eq x6_46 0) (rl_c (rl_eq r_113 0) (rl_c (rl_eq r_146 1) (rl_c (rl_eq r_179 (-1)) (rl_c (rl_eq r_212 (-1)) (rl_c (rl_eq r_245 0) (rl_c (rl_eq r_278 0) (rl_c (rl_eq r_311 3) (post 1) (post 0)) (post 0)) (post 0)) (post 0)) (post 0)) (post 0)) (post 0)) (rl_c (rl_eq r_113 2) (rl_c (rl_eq r_146 (z0 * z0)) (rl_c (rl_eq r_179 0) (rl_c (rl_eq r_212 0) (rl_c (rl_eq r_245 0) (rl_c (rl_eq r_278 1) (rl_c (rl_eq r_311 2) (post 1) (post 0)) (post 0)) (post 0)) (post 0)) (post 0)) (post 0)) (post 0))) (rl_c (rl_lt r_179 0) (rl_wL_lawOf_143 post z0 x6_46 r_113 r_146 r_179 r_212 r_245 r_278 r_311) (rl_c (rl_le z0 r_179) (rl_wL_lawOf_143 post z0 x6_46 r_113 r_146 r_179 r_212 r_245 r_278 r_311) (rl_c (rl_eq z0 0) false (rl_c (rl_eq ((r_179 * x5_44) - (r_179 * x5_44) / z0 * z0) x6_46) (rl_wL_lawOf_144 post z0 x6_46 r_113 r_146 r_179 r_212 r_245 r_278 r_311 1) (rl_wL_lawOf_143 post z0 x6_46 r_113 r_146 r_179 r_212 r_245 r_278 r_311)))))) fm0_q_279 fm0_limit_280 fm0_size_281 fm0_workSize_282 fm0_rows_283 fm0_columns_284 fm0_rank_285 fm0_registerLength_286 am971_289 am972_292 am973_295 am974_298 am975_301 am976_304 am977_307 am978_310 1) fm0_q_246 fm0_limit_247 fm0_size_248 fm0_workSize_249 fm0_rows_250 fm0_columns_251 fm0_rank_252 fm0_registerLength_253 am911_256 am912_259 am913_262 am914_265 am915_268 am916_271 am917_274 am918_277) fm0_q_213 fm0_limit_214 fm0_size_215 fm0_workSize_216 fm0_rows_217 fm0_columns_218 fm0_rank_219 fm0_registerLength_220 am841_223 am842_226 am843_229 am844_232 am845_235 am846_238 am847_241 am848_244 0) fm0_q_180 fm0_limit_181 fm0_size_182 fm0_workSize_183 fm0_rows_184 fm0_columns_185 fm0_rank_186 fm0_registerLength_187 am771_190 am772_193 am773_196 am774_199 am775_202 am776_205 am777_208 am778_211 2) fm0_q_147 fm0_limit_148 fm0_size_149 fm0_workSize_150 fm0_rows_151 fm0_columns_152 fm0_rank_153 fm0_registerLength_154 am701_157 am702_160 am703_163 am704_166 am705_169 am706_172 am707_175 am708_178 1) fm0_q_114 fm0_limit_115 fm0_size_116 fm0_workSize_117 fm0_rows_118 fm0_columns_119 fm0_rank_120 fm0_registerLength_121 am641_124 am642_127 am643_130 am644_133 am645_136 am646_139 am647_142 am648_145) fm0_q_81 fm0_limit_82 fm0_size_83 fm0_workSize_84 fm0_rows_85 fm0_columns_86 fm0_rank_87 fm0_registerLength_88 am571_91 am572_94 am573_97 am574_100 am575_103 am576_106 am577_109 am578_112 0 2) fm0_q_48 fm0_limit_49 fm0_size_50 fm0_workSize_51 fm0_rows_52 fm0_columns_53 fm0_rank_54 fm0_registerLength_55 am501_58 am502_61 am503_64 am504_67 am505_70 am506_73 am507_76 am508_79 x6_46) fm0_q fm0_limit fm0_size fm0_workSize fm0_rows fm0_columns fm0_rank fm0_registerLength am51 am52 am53 am54 am55 am56 am57 am58 x5_44
end
section
theorem rs_wpX_isSymbol {k : rl_K0} {post : Int32 → Prop} {f0_q : Int32} {f0_limit : Int32} {f0_size : Int32} {f0_workSize : Int32} {f0_rows : Int32} {f0_columns : Int32} {f0_rank : Int32} {f0_registerLength : Int32} {a1 : List Int32} {a2 : List Int32} {a3 : List Int32} {a4 : List Int32} {a5 : List Int32} {a6 : List Int32} {a7 : List Int32} {a8 : List Int32} {p0 : Int32} (h : rl_wpX_isSymbol k f0_q f0_limit f0_size f0_workSize f0_rows f0_columns f0_rank f0_registerLength a1 a2 a3 a4 a5 a6 a7 a8 p0 = true) (hk : rl_H0 k post) :
    wpX_isSymbol post (f0_q, f0_limit, f0_size, f0_workSize, f0_rows, f0_columns, f0_rank, f0_registerLength, rl_f a1, rl_f a2, rl_f a3, rl_f a4, rl_f a5, rl_f a6, rl_f a7, rl_f a8) p0 := by
  unfold rl_wpX_isSymbol at h
  unfold wpX_isSymbol
  dsimp only
  exact rl_iflt h (fun h => hk _ h) (fun h => rl_ifle h (fun h => hk _ h) (fun h => hk _ h))
theorem rs_wpX_append {k : rl_K2} {post : Int32 → St2 → Prop} {f0_q : Int32} {f0_limit : Int32} {f0_size : Int32} {f0_workSize : Int32} {f0_rows : Int32} {f0_columns : Int32} {f0_rank : Int32} {f0_registerLength : Int32} {a1 : List Int32} {a2 : List Int32} {a3 : List Int32} {a4 : List Int32} {a5 : List Int32} {a6 : List Int32} {a7 : List Int32} {a8 : List Int32} {p0 : Int32} (h : rl_wpX_append k f0_q f0_limit f0_size f0_workSize f0_rows f0_columns f0_rank f0_registerLength a1 a2 a3 a4 a5 a6 a7 a8 p0 = true) (hk : rl_H2 k post) :
    wpX_append post (f0_q, f0_limit, f0_size, f0_workSize, f0_rows, f0_columns, f0_rank, f0_registerLength, rl_f a1, rl_f a2, rl_f a3, rl_f a4, rl_f a5, rl_f a6, rl_f a7, rl_f a8) p0 := by
  unfold rl_wpX_append at h
  unfold wpX_append
  dsimp only
  exact rs_wpX_isSymbol h (fun r_1 h => rl_ifeq h (fun h => hk _ _ _ _ _ _ _ _ _ _ _ _ _ _ _ _ _ h) (fun h => rl_iflt h (fun h => rl_ins h (fun h => rl_nu h (fun a1_5 h => rl_nm h (fun f_6 h => hk _ _ _ _ _ _ _ _ _ _ _ _ _ _ _ _ _ h)))) (fun h => hk _ _ _ _ _ _ _ _ _ _ _ _ _ _ _ _ _ h)))
theorem rs_wX_take_7 {k : rl_K1} {post : St2 → Prop} (hk : rl_H1 k post) {x2 : Int32} {f0_q : Int32} {f0_limit : Int32} {f0_size : Int32} {f0_rows : Int32} {f0_columns : Int32} {f0_rank : Int32} {f0_registerLength : Int32} (n : Nat) : ∀ {x3 : Int32} {f0_workSize : Int32} {a1 : List Int32} {a2 : List Int32} {a3 : List Int32} {a4 : List Int32} {a5 : List Int32} {a6 : List Int32} {a7 : List Int32} {a8 : List Int32}, rl_wX_take_7 k x2 f0_q f0_limit f0_size f0_rows f0_columns f0_rank f0_registerLength n x3 f0_workSize a1 a2 a3 a4 a5 a6 a7 a8 = true →
    wX_take_7 post x2 f0_q f0_limit f0_size f0_rows f0_columns f0_rank f0_registerLength n x3 f0_workSize (rl_f a1) (rl_f a2) (rl_f a3) (rl_f a4) (rl_f a5) (rl_f a6) (rl_f a7) (rl_f a8) := by
  induction n with
  | zero => intro x3 f0_workSize a1 a2 a3 a4 a5 a6 a7 a8 h; exact absurd (show false = true from h) (by decide)
  | succ n ih =>
    intro x3 f0_workSize a1 a2 a3 a4 a5 a6 a7 a8 h
    unfold rl_wX_take_7 at h
    unfold wX_take_7
    exact rl_ifle h (fun h => hk _ _ _ _ _ _ _ _ _ _ _ _ _ _ _ _ h) (fun h => rl_ins h (fun h => rl_ins h (fun h => rl_nu h (fun a2_4 h => rl_nm h (fun f_5 h => rl_nm h (fun x3_6 h => ih h))))))
theorem rs_wpX_take {k : rl_K1} {post : St2 → Prop} {f0_q : Int32} {f0_limit : Int32} {f0_size : Int32} {f0_workSize : Int32} {f0_rows : Int32} {f0_columns : Int32} {f0_rank : Int32} {f0_registerLength : Int32} {a1 : List Int32} {a2 : List Int32} {a3 : List Int32} {a4 : List Int32} {a5 : List Int32} {a6 : List Int32} {a7 : List Int32} {a8 : List Int32} {p0 : Int32} {p1 : Int32} (h : rl_wpX_take k f0_q f0_limit f0_size f0_workSize f0_rows f0_columns f0_rank f0_registerLength a1 a2 a3 a4 a5 a6 a7 a8 p0 p1 = true) (hk : rl_H1 k post) :
    wpX_take post (f0_q, f0_limit, f0_size, f0_workSize, f0_rows, f0_columns, f0_rank, f0_registerLength, rl_f a1, rl_f a2, rl_f a3, rl_f a4, rl_f a5, rl_f a6, rl_f a7, rl_f a8) p0 p1 := by
  unfold rl_wpX_take at h
  unfold wpX_take
  dsimp only
  exact ⟨40, rs_wX_take_7 hk _ h⟩
theorem rs_wX_discrepancy_5 {k : rl_K0} {post : Int32 → Prop} (hk : rl_H0 k post) {x1 : Int32} {x2 : Int32} {f0_q : Int32} {f0_limit : Int32} {f0_size : Int32} {f0_workSize : Int32} {f0_rows : Int32} {f0_columns : Int32} {f0_rank : Int32} {f0_registerLength : Int32} {a1 : List Int32} {a2 : List Int32} {a3 : List Int32} {a4 : List Int32} {a5 : List Int32} {a6 : List Int32} {a7 : List Int32} {a8 : List Int32} (n : Nat) : ∀ {x3 : Int32} {x4 : Int32}, rl_wX_discrepancy_5 k x1 x2 f0_q f0_limit f0_size f0_workSize f0_rows f0_columns f0_rank f0_registerLength a1 a2 a3 a4 a5 a6 a7 a8 n x3 x4 = true →
    wX_discrepancy_5 post x1 x2 f0_q f0_limit f0_size f0_workSize f0_rows f0_columns f0_rank f0_registerLength (rl_f a1) (rl_f a2) (rl_f a3) (rl_f a4) (rl_f a5) (rl_f a6) (rl_f a7) (rl_f a8) n x3 x4 := by
  induction n with
  | zero => intro x3 x4 h; exact absurd (show false = true from h) (by decide)
  | succ n ih =>
    intro x3 x4 h
    unfold rl_wX_discrepancy_5 at h
    unfold wX_discrepancy_5
    exact rl_iflt h (fun h => rl_nzs h (fun h => hk _ (rl_foE h))) (fun h => rl_iflt h (fun h => rl_nzs h (fun h => hk _ (rl_foE h))) (fun h => rl_ins h (fun h => rl_ins h (fun h => rl_nm h (fun x3_7 h => rl_nm h (fun x4_8 h => ih h))))))
theorem rs_wpX_discrepancy {k : rl_K0} {post : Int32 → Prop} {f0_q : Int32} {f0_limit : Int32} {f0_size : Int32} {f0_workSize : Int32} {f0_rows : Int32} {f0_columns : Int32} {f0_rank : Int32} {f0_registerLength : Int32} {a1 : List Int32} {a2 : List Int32} {a3 : List Int32} {a4 : List Int32} {a5 : List Int32} {a6 : List Int32} {a7 : List Int32} {a8 : List Int32} {p0 : Int32} {p1 : Int32} (h : rl_wpX_discrepancy k f0_q f0_limit f0_size f0_workSize f0_rows f0_columns f0_rank f0_registerLength a1 a2 a3 a4 a5 a6 a7 a8 p0 p1 = true) (hk : rl_H0 k post) :
    wpX_discrepancy post (f0_q, f0_limit, f0_size, f0_workSize, f0_rows, f0_columns, f0_rank, f0_registerLength, rl_f a1, rl_f a2, rl_f a3, rl_f a4, rl_f a5, rl_f a6, rl_f a7, rl_f a8) p0 p1 := by
  unfold rl_wpX_discrepancy at h
  unfold wpX_discrepancy
  dsimp only
  exact ⟨40, rs_wX_discrepancy_5 hk _ h⟩
theorem rs_wX_inverse_4 {k : rl_K0} {post : Int32 → Prop} (hk : rl_H0 k post) {x1 : Int32} {f0_q : Int32} {f0_limit : Int32} {f0_size : Int32} {f0_workSize : Int32} {f0_rows : Int32} {f0_columns : Int32} {f0_rank : Int32} {f0_registerLength : Int32} {a1 : List Int32} {a2 : List Int32} {a3 : List Int32} {a4 : List Int32} {a5 : List Int32} {a6 : List Int32} {a7 : List Int32} {a8 : List Int32} (n : Nat) : ∀ {x2 : Int32} {x3 : Int32}, rl_wX_inverse_4 k x1 f0_q f0_limit f0_size f0_workSize f0_rows f0_columns f0_rank f0_registerLength a1 a2 a3 a4 a5 a6 a7 a8 n x2 x3 = true →
    wX_inverse_4 post x1 f0_q f0_limit f0_size f0_workSize f0_rows f0_columns f0_rank f0_registerLength (rl_f a1) (rl_f a2) (rl_f a3) (rl_f a4) (rl_f a5) (rl_f a6) (rl_f a7) (rl_f a8) n x2 x3 := by
  induction n with
  | zero => intro x2 x3 h; exact absurd (show false = true from h) (by decide)
  | succ n ih =>
    intro x2 x3 h
    unfold rl_wX_inverse_4 at h
    unfold wX_inverse_4
    exact rl_ifle h (fun h => hk _ h) (fun h => rl_nzs h (fun h => rl_ifeq h (fun h => rl_nm h (fun x3_5 h => ih h)) (fun h => rl_nm h (fun x3_4 h => ih h))))
theorem rs_wpX_inverse {k : rl_K0} {post : Int32 → Prop} {f0_q : Int32} {f0_limit : Int32} {f0_size : Int32} {f0_workSize : Int32} {f0_rows : Int32} {f0_columns : Int32} {f0_rank : Int32} {f0_registerLength : Int32} {a1 : List Int32} {a2 : List Int32} {a3 : List Int32} {a4 : List Int32} {a5 : List Int32} {a6 : List Int32} {a7 : List Int32} {a8 : List Int32} {p0 : Int32} (h : rl_wpX_inverse k f0_q f0_limit f0_size f0_workSize f0_rows f0_columns f0_rank f0_registerLength a1 a2 a3 a4 a5 a6 a7 a8 p0 = true) (hk : rl_H0 k post) :
    wpX_inverse post (f0_q, f0_limit, f0_size, f0_workSize, f0_rows, f0_columns, f0_rank, f0_registerLength, rl_f a1, rl_f a2, rl_f a3, rl_f a4, rl_f a5, rl_f a6, rl_f a7, rl_f a8) p0 := by
  unfold rl_wpX_inverse at h
  unfold wpX_inverse
  dsimp only
  exact ⟨40, rs_wX_inverse_4 hk _ h⟩
theorem rs_wpX_wrap {k : rl_K0} {post : Int32 → Prop} {f0_q : Int32} {f0_limit : Int32} {f0_size : Int32} {f0_workSize : Int32} {f0_rows : Int32} {f0_columns : Int32} {f0_rank : Int32} {f0_registerLength : Int32} {a1 : List Int32} {a2 : List Int32} {a3 : List Int32} {a4 : List Int32} {a5 : List Int32} {a6 : List Int32} {a7 : List Int32} {a8 : List Int32} {p0 : Int32} (h : rl_wpX_wrap k f0_q f0_limit f0_size f0_workSize f0_rows f0_columns f0_rank f0_registerLength a1 a2 a3 a4 a5 a6 a7 a8 p0 = true) (hk : rl_H0 k post) :
    wpX_wrap post (f0_q, f0_limit, f0_size, f0_workSize, f0_rows, f0_columns, f0_rank, f0_registerLength, rl_f a1, rl_f a2, rl_f a3, rl_f a4, rl_f a5, rl_f a6, rl_f a7, rl_f a8) p0 := by
  unfold rl_wpX_wrap at h
  unfold wpX_wrap
  dsimp only
  exact rl_nzs h (fun h => hk _ (rl_foE h))
theorem rs_wX_mend_17 {k : rl_K1} {post : St2 → Prop} (hk : rl_H1 k post) {x3 : Int32} {x4 : Int32} {f0_q : Int32} {f0_limit : Int32} {f0_size : Int32} {f0_workSize : Int32} {f0_rows : Int32} {f0_columns : Int32} {f0_rank : Int32} {f0_registerLength : Int32} (n : Nat) : ∀ {x5 : Int32} {a1 : List Int32} {a2 : List Int32} {a3 : List Int32} {a4 : List Int32} {a5 : List Int32} {a6 : List Int32} {a7 : List Int32} {a8 : List Int32}, rl_wX_mend_17 k x3 x4 f0_q f0_limit f0_size f0_workSize f0_rows f0_columns f0_rank f0_registerLength n x5 a1 a2 a3 a4 a5 a6 a7 a8 = true →
    wX_mend_17 post x3 x4 f0_q f0_limit f0_size f0_workSize f0_rows f0_columns f0_rank f0_registerLength n x5 (rl_f a1) (rl_f a2) (rl_f a3) (rl_f a4) (rl_f a5) (rl_f a6) (rl_f a7) (rl_f a8) := by
  induction n with
  | zero => intro x5 a1 a2 a3 a4 a5 a6 a7 a8 h; exact absurd (show false = true from h) (by decide)
  | succ n ih =>
    intro x5 a1 a2 a3 a4 a5 a6 a7 a8 h
    unfold rl_wX_mend_17 at h
    unfold wX_mend_17
    exact rl_ifle h (fun h => hk _ _ _ _ _ _ _ _ _ _ _ _ _ _ _ _ h) (fun h => rl_ins h (fun h => rl_ins h (fun h => rl_nm h (fun x6_7 h => rs_wpX_wrap h (fun r_8 h => rl_ins h (fun h => rl_nu h (fun a3_10 h => rl_nm h (fun x5_11 h => ih h))))))))
theorem rs_wpX_mend {k : rl_K1} {post : St2 → Prop} {f0_q : Int32} {f0_limit : Int32} {f0_size : Int32} {f0_workSize : Int32} {f0_rows : Int32} {f0_columns : Int32} {f0_rank : Int32} {f0_registerLength : Int32} {a1 : List Int32} {a2 : List Int32} {a3 : List Int32} {a4 : List Int32} {a5 : List Int32} {a6 : List Int32} {a7 : List Int32} {a8 : List Int32} {p0 : Int32} {p1 : Int32} {p2 : Int32} (h : rl_wpX_mend k f0_q f0_limit f0_size f0_workSize f0_rows f0_columns f0_rank f0_registerLength a1 a2 a3 a4 a5 a6 a7 a8 p0 p1 p2 = true) (hk : rl_H1 k post) :
    wpX_mend post (f0_q, f0_limit, f0_size, f0_workSize, f0_rows, f0_columns, f0_rank, f0_registerLength, rl_f a1, rl_f a2, rl_f a3, rl_f a4, rl_f a5, rl_f a6, rl_f a7, rl_f a8) p0 p1 p2 := by
  unfold rl_wpX_mend at h
  unfold wpX_mend
  dsimp only
  exact rs_wpX_inverse h (fun r_1 h => rl_nzs h (fun h => rl_nm h (fun x4_3 h => ⟨40, rs_wX_mend_17 hk _ h⟩)))
theorem rs_wX_keepCopy_2 {k : rl_K1} {post : St2 → Prop} (hk : rl_H1 k post) {f0_q : Int32} {f0_limit : Int32} {f0_size : Int32} {f0_workSize : Int32} {f0_rows : Int32} {f0_columns : Int32} {f0_rank : Int32} {f0_registerLength : Int32} (n : Nat) : ∀ {x1 : Int32} {a1 : List Int32} {a2 : List Int32} {a3 : List Int32} {a4 : List Int32} {a5 : List Int32} {a6 : List Int32} {a7 : List Int32} {a8 : List Int32}, rl_wX_keepCopy_2 k f0_q f0_limit f0_size f0_workSize f0_rows f0_columns f0_rank f0_registerLength n x1 a1 a2 a3 a4 a5 a6 a7 a8 = true →
    wX_keepCopy_2 post f0_q f0_limit f0_size f0_workSize f0_rows f0_columns f0_rank f0_registerLength n x1 (rl_f a1) (rl_f a2) (rl_f a3) (rl_f a4) (rl_f a5) (rl_f a6) (rl_f a7) (rl_f a8) := by
  induction n with
  | zero => intro x1 a1 a2 a3 a4 a5 a6 a7 a8 h; exact absurd (show false = true from h) (by decide)
  | succ n ih =>
    intro x1 a1 a2 a3 a4 a5 a6 a7 a8 h
    unfold rl_wX_keepCopy_2 at h
    unfold wX_keepCopy_2
    exact rl_ifle h (fun h => hk _ _ _ _ _ _ _ _ _ _ _ _ _ _ _ _ h) (fun h => rl_ins h (fun h => rl_ins h (fun h => rl_nu h (fun a5_4 h => rl_nm h (fun x1_5 h => ih h)))))
theorem rs_wpX_keepCopy {k : rl_K1} {post : St2 → Prop} {f0_q : Int32} {f0_limit : Int32} {f0_size : Int32} {f0_workSize : Int32} {f0_rows : Int32} {f0_columns : Int32} {f0_rank : Int32} {f0_registerLength : Int32} {a1 : List Int32} {a2 : List Int32} {a3 : List Int32} {a4 : List Int32} {a5 : List Int32} {a6 : List Int32} {a7 : List Int32} {a8 : List Int32} (h : rl_wpX_keepCopy k f0_q f0_limit f0_size f0_workSize f0_rows f0_columns f0_rank f0_registerLength a1 a2 a3 a4 a5 a6 a7 a8 = true) (hk : rl_H1 k post) :
    wpX_keepCopy post (f0_q, f0_limit, f0_size, f0_workSize, f0_rows, f0_columns, f0_rank, f0_registerLength, rl_f a1, rl_f a2, rl_f a3, rl_f a4, rl_f a5, rl_f a6, rl_f a7, rl_f a8)  := by
  unfold rl_wpX_keepCopy at h
  unfold wpX_keepCopy
  dsimp only
  exact ⟨40, rs_wX_keepCopy_2 hk _ h⟩
theorem rs_wX_useCopy_2 {k : rl_K1} {post : St2 → Prop} (hk : rl_H1 k post) {f0_q : Int32} {f0_limit : Int32} {f0_size : Int32} {f0_workSize : Int32} {f0_rows : Int32} {f0_columns : Int32} {f0_rank : Int32} {f0_registerLength : Int32} (n : Nat) : ∀ {x1 : Int32} {a1 : List Int32} {a2 : List Int32} {a3 : List Int32} {a4 : List Int32} {a5 : List Int32} {a6 : List Int32} {a7 : List Int32} {a8 : List Int32}, rl_wX_useCopy_2 k f0_q f0_limit f0_size f0_workSize f0_rows f0_columns f0_rank f0_registerLength n x1 a1 a2 a3 a4 a5 a6 a7 a8 = true →
    wX_useCopy_2 post f0_q f0_limit f0_size f0_workSize f0_rows f0_columns f0_rank f0_registerLength n x1 (rl_f a1) (rl_f a2) (rl_f a3) (rl_f a4) (rl_f a5) (rl_f a6) (rl_f a7) (rl_f a8) := by
  induction n with
  | zero => intro x1 a1 a2 a3 a4 a5 a6 a7 a8 h; exact absurd (show false = true from h) (by decide)
  | succ n ih =>
    intro x1 a1 a2 a3 a4 a5 a6 a7 a8 h
    unfold rl_wX_useCopy_2 at h
    unfold wX_useCopy_2
    exact rl_ifle h (fun h => hk _ _ _ _ _ _ _ _ _ _ _ _ _ _ _ _ h) (fun h => rl_ins h (fun h => rl_ins h (fun h => rl_nu h (fun a4_4 h => rl_nm h (fun x1_5 h => ih h)))))
theorem rs_wpX_useCopy {k : rl_K1} {post : St2 → Prop} {f0_q : Int32} {f0_limit : Int32} {f0_size : Int32} {f0_workSize : Int32} {f0_rows : Int32} {f0_columns : Int32} {f0_rank : Int32} {f0_registerLength : Int32} {a1 : List Int32} {a2 : List Int32} {a3 : List Int32} {a4 : List Int32} {a5 : List Int32} {a6 : List Int32} {a7 : List Int32} {a8 : List Int32} (h : rl_wpX_useCopy k f0_q f0_limit f0_size f0_workSize f0_rows f0_columns f0_rank f0_registerLength a1 a2 a3 a4 a5 a6 a7 a8 = true) (hk : rl_H1 k post) :
    wpX_useCopy post (f0_q, f0_limit, f0_size, f0_workSize, f0_rows, f0_columns, f0_rank, f0_registerLength, rl_f a1, rl_f a2, rl_f a3, rl_f a4, rl_f a5, rl_f a6, rl_f a7, rl_f a8)  := by
  unfold rl_wpX_useCopy at h
  unfold wpX_useCopy
  dsimp only
  exact ⟨40, rs_wX_useCopy_2 hk _ h⟩
theorem rs_wX_shortest_51 {k : rl_K2} {post : Int32 → St2 → Prop} (hk : rl_H2 k post)  (n : Nat) : ∀ {x1 : Int32} {x2 : Int32} {x3 : Int32} {x4 : Int32} {f0_q : Int32} {f0_limit : Int32} {f0_size : Int32} {f0_workSize : Int32} {f0_rows : Int32} {f0_columns : Int32} {f0_rank : Int32} {f0_registerLength : Int32} {a1 : List Int32} {a2 : List Int32} {a3 : List Int32} {a4 : List Int32} {a5 : List Int32} {a6 : List Int32} {a7 : List Int32} {a8 : List Int32}, rl_wX_shortest_51 k  n x1 x2 x3 x4 f0_q f0_limit f0_size f0_workSize f0_rows f0_columns f0_rank f0_registerLength a1 a2 a3 a4 a5 a6 a7 a8 = true →
    wX_shortest_51 post  n x1 x2 x3 x4 f0_q f0_limit f0_size f0_workSize f0_rows f0_columns f0_rank f0_registerLength (rl_f a1) (rl_f a2) (rl_f a3) (rl_f a4) (rl_f a5) (rl_f a6) (rl_f a7) (rl_f a8) := by
  induction n with
  | zero => intro x1 x2 x3 x4 f0_q f0_limit f0_size f0_workSize f0_rows f0_columns f0_rank f0_registerLength a1 a2 a3 a4 a5 a6 a7 a8 h; exact absurd (show false = true from h) (by decide)
  | succ n ih =>
    intro x1 x2 x3 x4 f0_q f0_limit f0_size f0_workSize f0_rows f0_columns f0_rank f0_registerLength a1 a2 a3 a4 a5 a6 a7 a8 h
    unfold rl_wX_shortest_51 at h
    unfold wX_shortest_51
    exact rl_ifle h (fun h => hk _ _ _ _ _ _ _ _ _ _ _ _ _ _ _ _ _ h) (fun h => rs_wpX_discrepancy h (fun r_7 h => rl_ifeq h (fun h => rl_nm h (fun x2_146 h => rl_nm h (fun x4_147 h => ih h))) (fun h => rl_iflt h (fun h => rs_wpX_mend h (fun f0_q_11 f0_limit_12 f0_size_13 f0_workSize_14 f0_rows_15 f0_columns_16 f0_rank_17 f0_registerLength_18 am1241_21 am1242_24 am1243_27 am1244_30 am1245_33 am1246_36 am1247_39 am1248_42 h => rl_nm h (fun x2_43 h => rl_nm h (fun x4_44 h => ih h)))) (fun h => rs_wpX_keepCopy h (fun f0_q_46 f0_limit_47 f0_size_48 f0_workSize_49 f0_rows_50 f0_columns_51 f0_rank_52 f0_registerLength_53 am891_56 am892_59 am893_62 am894_65 am895_68 am896_71 am897_74 am898_77 h => rs_wpX_mend h (fun f0_q_79 f0_limit_80 f0_size_81 f0_workSize_82 f0_rows_83 f0_columns_84 f0_rank_85 f0_registerLength_86 am971_89 am972_92 am973_95 am974_98 am975_101 am976_104 am977_107 am978_110 h => rl_nm h (fun x1_111 h => rs_wpX_useCopy h (fun f0_q_113 f0_limit_114 f0_size_115 f0_workSize_116 f0_rows_117 f0_columns_118 f0_rank_119 f0_registerLength_120 am1081_123 am1082_126 am1083_129 am1084_132 am1085_135 am1086_138 am1087_141 am1088_144 h => rl_nm h (fun x4_145 h => ih h)))))))))
theorem rs_wX_shortest_2 {k : rl_K2} {post : Int32 → St2 → Prop} (hk : rl_H2 k post) {f0_q : Int32} {f0_limit : Int32} {f0_size : Int32} {f0_workSize : Int32} {f0_rows : Int32} {f0_columns : Int32} {f0_rank : Int32} {f0_registerLength : Int32} (n : Nat) : ∀ {x1 : Int32} {a1 : List Int32} {a2 : List Int32} {a3 : List Int32} {a4 : List Int32} {a5 : List Int32} {a6 : List Int32} {a7 : List Int32} {a8 : List Int32}, rl_wX_shortest_2 k f0_q f0_limit f0_size f0_workSize f0_rows f0_columns f0_rank f0_registerLength n x1 a1 a2 a3 a4 a5 a6 a7 a8 = true →
    wX_shortest_2 post f0_q f0_limit f0_size f0_workSize f0_rows f0_columns f0_rank f0_registerLength n x1 (rl_f a1) (rl_f a2) (rl_f a3) (rl_f a4) (rl_f a5) (rl_f a6) (rl_f a7) (rl_f a8) := by
  induction n with
  | zero => intro x1 a1 a2 a3 a4 a5 a6 a7 a8 h; exact absurd (show false = true from h) (by decide)
  | succ n ih =>
    intro x1 a1 a2 a3 a4 a5 a6 a7 a8 h
    unfold rl_wX_shortest_2 at h
    unfold wX_shortest_2
    exact rl_ifle h (fun h => rl_nu h (fun a3_3 h => rl_nu h (fun a4_5 h => ⟨40, rs_wX_shortest_51 hk _ h⟩))) (fun h => rl_ins h (fun h => rl_nu h (fun a3_149 h => rl_ins h (fun h => rl_nu h (fun a4_151 h => rl_nm h (fun x1_152 h => ih h))))))
theorem rs_wpX_shortest {k : rl_K2} {post : Int32 → St2 → Prop} {f0_q : Int32} {f0_limit : Int32} {f0_size : Int32} {f0_workSize : Int32} {f0_rows : Int32} {f0_columns : Int32} {f0_rank : Int32} {f0_registerLength : Int32} {a1 : List Int32} {a2 : List Int32} {a3 : List Int32} {a4 : List Int32} {a5 : List Int32} {a6 : List Int32} {a7 : List Int32} {a8 : List Int32} (h : rl_wpX_shortest k f0_q f0_limit f0_size f0_workSize f0_rows f0_columns f0_rank f0_registerLength a1 a2 a3 a4 a5 a6 a7 a8 = true) (hk : rl_H2 k post) :
    wpX_shortest post (f0_q, f0_limit, f0_size, f0_workSize, f0_rows, f0_columns, f0_rank, f0_registerLength, rl_f a1, rl_f a2, rl_f a3, rl_f a4, rl_f a5, rl_f a6, rl_f a7, rl_f a8)  := by
  unfold rl_wpX_shortest at h
  unfold wpX_shortest
  dsimp only
  exact ⟨40, rs_wX_shortest_2 hk _ h⟩
theorem rs_wpX_complexity {k : rl_K2} {post : Int32 → St2 → Prop} {f0_q : Int32} {f0_limit : Int32} {f0_size : Int32} {f0_workSize : Int32} {f0_rows : Int32} {f0_columns : Int32} {f0_rank : Int32} {f0_registerLength : Int32} {a1 : List Int32} {a2 : List Int32} {a3 : List Int32} {a4 : List Int32} {a5 : List Int32} {a6 : List Int32} {a7 : List Int32} {a8 : List Int32} {p0 : Int32} {p1 : Int32} (h : rl_wpX_complexity k f0_q f0_limit f0_size f0_workSize f0_rows f0_columns f0_rank f0_registerLength a1 a2 a3 a4 a5 a6 a7 a8 p0 p1 = true) (hk : rl_H2 k post) :
    wpX_complexity post (f0_q, f0_limit, f0_size, f0_workSize, f0_rows, f0_columns, f0_rank, f0_registerLength, rl_f a1, rl_f a2, rl_f a3, rl_f a4, rl_f a5, rl_f a6, rl_f a7, rl_f a8) p0 p1 := by
  unfold rl_wpX_complexity at h
  unfold wpX_complexity
  dsimp only
  exact rl_iflt h (fun h => hk _ _ _ _ _ _ _ _ _ _ _ _ _ _ _ _ _ h) (fun h => rl_iflt h (fun h => hk _ _ _ _ _ _ _ _ _ _ _ _ _ _ _ _ _ h) (fun h => rl_ifle h (fun h => rs_wpX_take h (fun f0_q_5 f0_limit_6 f0_size_7 f0_workSize_8 f0_rows_9 f0_columns_10 f0_rank_11 f0_registerLength_12 am221_15 am222_18 am223_21 am224_24 am225_27 am226_30 am227_33 am228_36 h => rs_wpX_shortest h (fun r_37 f0_q_38 f0_limit_39 f0_size_40 f0_workSize_41 f0_rows_42 f0_columns_43 f0_rank_44 f0_registerLength_45 am261_48 am262_51 am263_54 am264_57 am265_60 am266_63 am267_66 am268_69 h => hk _ _ _ _ _ _ _ _ _ _ _ _ _ _ _ _ _ h))) (fun h => hk _ _ _ _ _ _ _ _ _ _ _ _ _ _ _ _ _ h)))
theorem rs_wX_rowWith_5 {k : rl_K0} {post : Int32 → Prop} (hk : rl_H0 k post) {x1 : Int32} {f0_q : Int32} {f0_limit : Int32} {f0_size : Int32} {f0_workSize : Int32} {f0_rows : Int32} {f0_columns : Int32} {f0_rank : Int32} {f0_registerLength : Int32} {a1 : List Int32} {a2 : List Int32} {a3 : List Int32} {a4 : List Int32} {a5 : List Int32} {a6 : List Int32} {a7 : List Int32} {a8 : List Int32} (n : Nat) : ∀ {x2 : Int32}, rl_wX_rowWith_5 k x1 f0_q f0_limit f0_size f0_workSize f0_rows f0_columns f0_rank f0_registerLength a1 a2 a3 a4 a5 a6 a7 a8 n x2 = true →
    wX_rowWith_5 post x1 f0_q f0_limit f0_size f0_workSize f0_rows f0_columns f0_rank f0_registerLength (rl_f a1) (rl_f a2) (rl_f a3) (rl_f a4) (rl_f a5) (rl_f a6) (rl_f a7) (rl_f a8) n x2 := by
  induction n with
  | zero => intro x2 h; exact absurd (show false = true from h) (by decide)
  | succ n ih =>
    intro x2 h
    unfold rl_wX_rowWith_5 at h
    unfold wX_rowWith_5
    exact rl_ifle h (fun h => hk _ h) (fun h => rl_ins h (fun h => rl_ifeq h (fun h => rl_nm h (fun x2_4 h => ih h)) (fun h => hk _ h)))
theorem rs_wpX_rowWith {k : rl_K0} {post : Int32 → Prop} {f0_q : Int32} {f0_limit : Int32} {f0_size : Int32} {f0_workSize : Int32} {f0_rows : Int32} {f0_columns : Int32} {f0_rank : Int32} {f0_registerLength : Int32} {a1 : List Int32} {a2 : List Int32} {a3 : List Int32} {a4 : List Int32} {a5 : List Int32} {a6 : List Int32} {a7 : List Int32} {a8 : List Int32} {p0 : Int32} (h : rl_wpX_rowWith k f0_q f0_limit f0_size f0_workSize f0_rows f0_columns f0_rank f0_registerLength a1 a2 a3 a4 a5 a6 a7 a8 p0 = true) (hk : rl_H0 k post) :
    wpX_rowWith post (f0_q, f0_limit, f0_size, f0_workSize, f0_rows, f0_columns, f0_rank, f0_registerLength, rl_f a1, rl_f a2, rl_f a3, rl_f a4, rl_f a5, rl_f a6, rl_f a7, rl_f a8) p0 := by
  unfold rl_wpX_rowWith at h
  unfold wpX_rowWith
  dsimp only
  exact ⟨40, rs_wX_rowWith_5 hk _ h⟩
theorem rs_wX_swap_2 {k : rl_K1} {post : St2 → Prop} (hk : rl_H1 k post) {x1 : Int32} {x2 : Int32} {f0_q : Int32} {f0_limit : Int32} {f0_size : Int32} {f0_workSize : Int32} {f0_rows : Int32} {f0_columns : Int32} {f0_rank : Int32} {f0_registerLength : Int32} (n : Nat) : ∀ {x3 : Int32} {a1 : List Int32} {a2 : List Int32} {a3 : List Int32} {a4 : List Int32} {a5 : List Int32} {a6 : List Int32} {a7 : List Int32} {a8 : List Int32}, rl_wX_swap_2 k x1 x2 f0_q f0_limit f0_size f0_workSize f0_rows f0_columns f0_rank f0_registerLength n x3 a1 a2 a3 a4 a5 a6 a7 a8 = true →
    wX_swap_2 post x1 x2 f0_q f0_limit f0_size f0_workSize f0_rows f0_columns f0_rank f0_registerLength n x3 (rl_f a1) (rl_f a2) (rl_f a3) (rl_f a4) (rl_f a5) (rl_f a6) (rl_f a7) (rl_f a8) := by
  induction n with
  | zero => intro x3 a1 a2 a3 a4 a5 a6 a7 a8 h; exact absurd (show false = true from h) (by decide)
  | succ n ih =>
    intro x3 a1 a2 a3 a4 a5 a6 a7 a8 h
    unfold rl_wX_swap_2 at h
    unfold wX_swap_2
    exact rl_iflt h (fun h => hk _ _ _ _ _ _ _ _ _ _ _ _ _ _ _ _ h) (fun h => rl_ins h (fun h => rl_nm h (fun x4_3 h => rl_ins h (fun h => rl_ins h (fun h => rl_nu h (fun a6_6 h => rl_ins h (fun h => rl_nu h (fun a6_8 h => rl_nm h (fun x3_9 h => ih h)))))))))
theorem rs_wpX_swap {k : rl_K1} {post : St2 → Prop} {f0_q : Int32} {f0_limit : Int32} {f0_size : Int32} {f0_workSize : Int32} {f0_rows : Int32} {f0_columns : Int32} {f0_rank : Int32} {f0_registerLength : Int32} {a1 : List Int32} {a2 : List Int32} {a3 : List Int32} {a4 : List Int32} {a5 : List Int32} {a6 : List Int32} {a7 : List Int32} {a8 : List Int32} {p0 : Int32} {p1 : Int32} (h : rl_wpX_swap k f0_q f0_limit f0_size f0_workSize f0_rows f0_columns f0_rank f0_registerLength a1 a2 a3 a4 a5 a6 a7 a8 p0 p1 = true) (hk : rl_H1 k post) :
    wpX_swap post (f0_q, f0_limit, f0_size, f0_workSize, f0_rows, f0_columns, f0_rank, f0_registerLength, rl_f a1, rl_f a2, rl_f a3, rl_f a4, rl_f a5, rl_f a6, rl_f a7, rl_f a8) p0 p1 := by
  unfold rl_wpX_swap at h
  unfold wpX_swap
  dsimp only
  exact ⟨40, rs_wX_swap_2 hk _ h⟩
theorem rs_wX_scale_19 {k : rl_K1} {post : St2 → Prop} (hk : rl_H1 k post) {x1 : Int32} {x3 : Int32} {f0_q : Int32} {f0_limit : Int32} {f0_size : Int32} {f0_workSize : Int32} {f0_rows : Int32} {f0_columns : Int32} {f0_rank : Int32} {f0_registerLength : Int32} (n : Nat) : ∀ {x4 : Int32} {a1 : List Int32} {a2 : List Int32} {a3 : List Int32} {a4 : List Int32} {a5 : List Int32} {a6 : List Int32} {a7 : List Int32} {a8 : List Int32}, rl_wX_scale_19 k x1 x3 f0_q f0_limit f0_size f0_workSize f0_rows f0_columns f0_rank f0_registerLength n x4 a1 a2 a3 a4 a5 a6 a7 a8 = true →
    wX_scale_19 post x1 x3 f0_q f0_limit f0_size f0_workSize f0_rows f0_columns f0_rank f0_registerLength n x4 (rl_f a1) (rl_f a2) (rl_f a3) (rl_f a4) (rl_f a5) (rl_f a6) (rl_f a7) (rl_f a8) := by
  induction n with
  | zero => intro x4 a1 a2 a3 a4 a5 a6 a7 a8 h; exact absurd (show false = true from h) (by decide)
  | succ n ih =>
    intro x4 a1 a2 a3 a4 a5 a6 a7 a8 h
    unfold rl_wX_scale_19 at h
    unfold wX_scale_19
    exact rl_iflt h (fun h => hk _ _ _ _ _ _ _ _ _ _ _ _ _ _ _ _ h) (fun h => rl_ins h (fun h => rl_nzs h (fun h => rl_ins h (fun h => rl_nu h (fun a6_7 h => rl_nm h (fun x4_8 h => ih h))))))
theorem rs_wpX_scale {k : rl_K1} {post : St2 → Prop} {f0_q : Int32} {f0_limit : Int32} {f0_size : Int32} {f0_workSize : Int32} {f0_rows : Int32} {f0_columns : Int32} {f0_rank : Int32} {f0_registerLength : Int32} {a1 : List Int32} {a2 : List Int32} {a3 : List Int32} {a4 : List Int32} {a5 : List Int32} {a6 : List Int32} {a7 : List Int32} {a8 : List Int32} {p0 : Int32} {p1 : Int32} (h : rl_wpX_scale k f0_q f0_limit f0_size f0_workSize f0_rows f0_columns f0_rank f0_registerLength a1 a2 a3 a4 a5 a6 a7 a8 p0 p1 = true) (hk : rl_H1 k post) :
    wpX_scale post (f0_q, f0_limit, f0_size, f0_workSize, f0_rows, f0_columns, f0_rank, f0_registerLength, rl_f a1, rl_f a2, rl_f a3, rl_f a4, rl_f a5, rl_f a6, rl_f a7, rl_f a8) p0 p1 := by
  unfold rl_wpX_scale at h
  unfold wpX_scale
  dsimp only
  exact rl_ins h (fun h => rs_wpX_inverse (rl_foE h) (fun r_2 h => ⟨40, rs_wX_scale_19 hk _ h⟩))
theorem rs_wX_subtract_3 {k : rl_K1} {post : St2 → Prop} (hk : rl_H1 k post) {x1 : Int32} {x2 : Int32} {x3 : Int32} {f0_q : Int32} {f0_limit : Int32} {f0_size : Int32} {f0_workSize : Int32} {f0_rows : Int32} {f0_columns : Int32} {f0_rank : Int32} {f0_registerLength : Int32} (n : Nat) : ∀ {x4 : Int32} {a1 : List Int32} {a2 : List Int32} {a3 : List Int32} {a4 : List Int32} {a5 : List Int32} {a6 : List Int32} {a7 : List Int32} {a8 : List Int32}, rl_wX_subtract_3 k x1 x2 x3 f0_q f0_limit f0_size f0_workSize f0_rows f0_columns f0_rank f0_registerLength n x4 a1 a2 a3 a4 a5 a6 a7 a8 = true →
    wX_subtract_3 post x1 x2 x3 f0_q f0_limit f0_size f0_workSize f0_rows f0_columns f0_rank f0_registerLength n x4 (rl_f a1) (rl_f a2) (rl_f a3) (rl_f a4) (rl_f a5) (rl_f a6) (rl_f a7) (rl_f a8) := by
  induction n with
  | zero => intro x4 a1 a2 a3 a4 a5 a6 a7 a8 h; exact absurd (show false = true from h) (by decide)
  | succ n ih =>
    intro x4 a1 a2 a3 a4 a5 a6 a7 a8 h
    unfold rl_wX_subtract_3 at h
    unfold wX_subtract_3
    exact rl_iflt h (fun h => hk _ _ _ _ _ _ _ _ _ _ _ _ _ _ _ _ h) (fun h => rl_ins h (fun h => rl_ins h (fun h => rl_nm h (fun x5_4 h => rs_wpX_wrap h (fun r_5 h => rl_ins h (fun h => rl_nu h (fun a6_7 h => rl_nm h (fun x4_8 h => ih h))))))))
theorem rs_wpX_subtract {k : rl_K1} {post : St2 → Prop} {f0_q : Int32} {f0_limit : Int32} {f0_size : Int32} {f0_workSize : Int32} {f0_rows : Int32} {f0_columns : Int32} {f0_rank : Int32} {f0_registerLength : Int32} {a1 : List Int32} {a2 : List Int32} {a3 : List Int32} {a4 : List Int32} {a5 : List Int32} {a6 : List Int32} {a7 : List Int32} {a8 : List Int32} {p0 : Int32} {p1 : Int32} {p2 : Int32} (h : rl_wpX_subtract k f0_q f0_limit f0_size f0_workSize f0_rows f0_columns f0_rank f0_registerLength a1 a2 a3 a4 a5 a6 a7 a8 p0 p1 p2 = true) (hk : rl_H1 k post) :
    wpX_subtract post (f0_q, f0_limit, f0_size, f0_workSize, f0_rows, f0_columns, f0_rank, f0_registerLength, rl_f a1, rl_f a2, rl_f a3, rl_f a4, rl_f a5, rl_f a6, rl_f a7, rl_f a8) p0 p1 p2 := by
  unfold rl_wpX_subtract at h
  unfold wpX_subtract
  dsimp only
  exact ⟨40, rs_wX_subtract_3 hk _ h⟩
theorem rs_wX_clearColumn_2 {k : rl_K1} {post : St2 → Prop} (hk : rl_H1 k post) {x1 : Int32} {x2 : Int32} (n : Nat) : ∀ {x3 : Int32} {f0_q : Int32} {f0_limit : Int32} {f0_size : Int32} {f0_workSize : Int32} {f0_rows : Int32} {f0_columns : Int32} {f0_rank : Int32} {f0_registerLength : Int32} {a1 : List Int32} {a2 : List Int32} {a3 : List Int32} {a4 : List Int32} {a5 : List Int32} {a6 : List Int32} {a7 : List Int32} {a8 : List Int32}, rl_wX_clearColumn_2 k x1 x2 n x3 f0_q f0_limit f0_size f0_workSize f0_rows f0_columns f0_rank f0_registerLength a1 a2 a3 a4 a5 a6 a7 a8 = true →
    wX_clearColumn_2 post x1 x2 n x3 f0_q f0_limit f0_size f0_workSize f0_rows f0_columns f0_rank f0_registerLength (rl_f a1) (rl_f a2) (rl_f a3) (rl_f a4) (rl_f a5) (rl_f a6) (rl_f a7) (rl_f a8) := by
  induction n with
  | zero => intro x3 f0_q f0_limit f0_size f0_workSize f0_rows f0_columns f0_rank f0_registerLength a1 a2 a3 a4 a5 a6 a7 a8 h; exact absurd (show false = true from h) (by decide)
  | succ n ih =>
    intro x3 f0_q f0_limit f0_size f0_workSize f0_rows f0_columns f0_rank f0_registerLength a1 a2 a3 a4 a5 a6 a7 a8 h
    unfold rl_wX_clearColumn_2 at h
    unfold wX_clearColumn_2
    exact rl_ifle h (fun h => hk _ _ _ _ _ _ _ _ _ _ _ _ _ _ _ _ h) (fun h => rl_ins h (fun h => rl_nm h (fun x4_3 h => rl_ifeq h (fun h => rl_nm h (fun x3_5 h => ih h)) (fun h => rl_ifeq h (fun h => rl_nm h (fun x3_7 h => ih h)) (fun h => rs_wpX_subtract h (fun f0_q_9 f0_limit_10 f0_size_11 f0_workSize_12 f0_rows_13 f0_columns_14 f0_rank_15 f0_registerLength_16 am381_19 am382_22 am383_25 am384_28 am385_31 am386_34 am387_37 am388_40 h => rl_nm h (fun x3_41 h => ih h)))))))
theorem rs_wpX_clearColumn {k : rl_K1} {post : St2 → Prop} {f0_q : Int32} {f0_limit : Int32} {f0_size : Int32} {f0_workSize : Int32} {f0_rows : Int32} {f0_columns : Int32} {f0_rank : Int32} {f0_registerLength : Int32} {a1 : List Int32} {a2 : List Int32} {a3 : List Int32} {a4 : List Int32} {a5 : List Int32} {a6 : List Int32} {a7 : List Int32} {a8 : List Int32} {p0 : Int32} {p1 : Int32} (h : rl_wpX_clearColumn k f0_q f0_limit f0_size f0_workSize f0_rows f0_columns f0_rank f0_registerLength a1 a2 a3 a4 a5 a6 a7 a8 p0 p1 = true) (hk : rl_H1 k post) :
    wpX_clearColumn post (f0_q, f0_limit, f0_size, f0_workSize, f0_rows, f0_columns, f0_rank, f0_registerLength, rl_f a1, rl_f a2, rl_f a3, rl_f a4, rl_f a5, rl_f a6, rl_f a7, rl_f a8) p0 p1 := by
  unfold rl_wpX_clearColumn at h
  unfold wpX_clearColumn
  dsimp only
  exact ⟨40, rs_wX_clearColumn_2 hk _ h⟩
theorem rs_wX_eliminate_12 {k : rl_K1} {post : St2 → Prop} (hk : rl_H1 k post)  (n : Nat) : ∀ {x1 : Int32} {f0_q : Int32} {f0_limit : Int32} {f0_size : Int32} {f0_workSize : Int32} {f0_rows : Int32} {f0_columns : Int32} {f0_rank : Int32} {f0_registerLength : Int32} {a1 : List Int32} {a2 : List Int32} {a3 : List Int32} {a4 : List Int32} {a5 : List Int32} {a6 : List Int32} {a7 : List Int32} {a8 : List Int32}, rl_wX_eliminate_12 k  n x1 f0_q f0_limit f0_size f0_workSize f0_rows f0_columns f0_rank f0_registerLength a1 a2 a3 a4 a5 a6 a7 a8 = true →
    wX_eliminate_12 post  n x1 f0_q f0_limit f0_size f0_workSize f0_rows f0_columns f0_rank f0_registerLength (rl_f a1) (rl_f a2) (rl_f a3) (rl_f a4) (rl_f a5) (rl_f a6) (rl_f a7) (rl_f a8) := by
  induction n with
  | zero => intro x1 f0_q f0_limit f0_size f0_workSize f0_rows f0_columns f0_rank f0_registerLength a1 a2 a3 a4 a5 a6 a7 a8 h; exact absurd (show false = true from h) (by decide)
  | succ n ih =>
    intro x1 f0_q f0_limit f0_size f0_workSize f0_rows f0_columns f0_rank f0_registerLength a1 a2 a3 a4 a5 a6 a7 a8 h
    unfold rl_wX_eliminate_12 at h
    unfold wX_eliminate_12
    exact rl_iflt h (fun h => hk _ _ _ _ _ _ _ _ _ _ _ _ _ _ _ _ h) (fun h => rl_ins h (fun h => rl_nu h (fun a7_4 h => rs_wpX_rowWith h (fun r_5 h => rl_iflt h (fun h => rl_nm h (fun x1_7 h => ih h)) (fun h => rs_wpX_swap h (fun f0_q_9 f0_limit_10 f0_size_11 f0_workSize_12 f0_rows_13 f0_columns_14 f0_rank_15 f0_registerLength_16 am391_19 am392_22 am393_25 am394_28 am395_31 am396_34 am397_37 am398_40 h => rs_wpX_scale h (fun f0_q_42 f0_limit_43 f0_size_44 f0_workSize_45 f0_rows_46 f0_columns_47 f0_rank_48 f0_registerLength_49 am481_52 am482_55 am483_58 am484_61 am485_64 am486_67 am487_70 am488_73 h => rs_wpX_clearColumn h (fun f0_q_75 f0_limit_76 f0_size_77 f0_workSize_78 f0_rows_79 f0_columns_80 f0_rank_81 f0_registerLength_82 am571_85 am572_88 am573_91 am574_94 am575_97 am576_100 am577_103 am578_106 h => rl_ins h (fun h => rl_nu h (fun am577_108 h => rl_nm h (fun f_109 h => rl_nm h (fun x1_110 h => ih h))))))))))))
theorem rs_wpX_eliminate {k : rl_K1} {post : St2 → Prop} {f0_q : Int32} {f0_limit : Int32} {f0_size : Int32} {f0_workSize : Int32} {f0_rows : Int32} {f0_columns : Int32} {f0_rank : Int32} {f0_registerLength : Int32} {a1 : List Int32} {a2 : List Int32} {a3 : List Int32} {a4 : List Int32} {a5 : List Int32} {a6 : List Int32} {a7 : List Int32} {a8 : List Int32} (h : rl_wpX_eliminate k f0_q f0_limit f0_size f0_workSize f0_rows f0_columns f0_rank f0_registerLength a1 a2 a3 a4 a5 a6 a7 a8 = true) (hk : rl_H1 k post) :
    wpX_eliminate post (f0_q, f0_limit, f0_size, f0_workSize, f0_rows, f0_columns, f0_rank, f0_registerLength, rl_f a1, rl_f a2, rl_f a3, rl_f a4, rl_f a5, rl_f a6, rl_f a7, rl_f a8)  := by
  unfold rl_wpX_eliminate at h
  unfold wpX_eliminate
  dsimp only
  exact rl_nm h (fun x1_1 h => ⟨40, rs_wX_eliminate_12 hk _ h⟩)
theorem rs_wX_findRegister_124 {k : rl_K1} {post : St2 → Prop} (hk : rl_H1 k post) {f0_q : Int32} {f0_limit : Int32} {f0_size : Int32} {f0_workSize : Int32} {f0_rows : Int32} {f0_columns : Int32} {f0_rank : Int32} {f0_registerLength : Int32} (n : Nat) : ∀ {x2 : Int32} {am1191 : List Int32} {am1192 : List Int32} {am1193 : List Int32} {am1194 : List Int32} {am1195 : List Int32} {am1196 : List Int32} {am1197 : List Int32} {am1198 : List Int32}, rl_wX_findRegister_124 k f0_q f0_limit f0_size f0_workSize f0_rows f0_columns f0_rank f0_registerLength n x2 am1191 am1192 am1193 am1194 am1195 am1196 am1197 am1198 = true →
    wX_findRegister_124 post f0_q f0_limit f0_size f0_workSize f0_rows f0_columns f0_rank f0_registerLength n x2 (rl_f am1191) (rl_f am1192) (rl_f am1193) (rl_f am1194) (rl_f am1195) (rl_f am1196) (rl_f am1197) (rl_f am1198) := by
  induction n with
  | zero => intro x2 am1191 am1192 am1193 am1194 am1195 am1196 am1197 am1198 h; exact absurd (show false = true from h) (by decide)
  | succ n ih =>
    intro x2 am1191 am1192 am1193 am1194 am1195 am1196 am1197 am1198 h
    unfold rl_wX_findRegister_124 at h
    unfold wX_findRegister_124
    exact rl_ifle h (fun h => hk _ _ _ _ _ _ _ _ _ _ _ _ _ _ _ _ h) (fun h => rl_ins h (fun h => rl_nm h (fun x3_104 h => rl_ifle h (fun h => rl_ins h (fun h => rl_ins h (fun h => rl_nu h (fun am1198_108 h => rl_nm h (fun x2_109 h => ih h))))) (fun h => rl_ins h (fun h => rl_nu h (fun am1198_111 h => rl_nm h (fun x2_112 h => ih h)))))))
theorem rs_wX_findRegister_47 {k : rl_K1} {post : St2 → Prop} (hk : rl_H1 k post) {J : Int32 → List Int32 → List Int32 → List Int32 → List Int32 → List Int32 → List Int32 → List Int32 → List Int32 → Bool} {J37 : Int32 → (Nat → Int32) → (Nat → Int32) → (Nat → Int32) → (Nat → Int32) → (Nat → Int32) → (Nat → Int32) → (Nat → Int32) → (Nat → Int32) → Prop} (hJ : ∀ (x : Int32) (l1 l2 l3 l4 l5 l6 l7 l8 : List Int32), J x l1 l2 l3 l4 l5 l6 l7 l8 = true → J37 x (rl_f l1) (rl_f l2) (rl_f l3) (rl_f l4) (rl_f l5) (rl_f l6) (rl_f l7) (rl_f l8)) {x2 : Int32} {f0_q : Int32} {f0_limit : Int32} {f0_size : Int32} {f0_workSize : Int32} {f0_rows : Int32} {f0_columns : Int32} {f0_rank : Int32} {f0_registerLength : Int32} (n : Nat) : ∀ {x3 : Int32} {am81 : List Int32} {am82 : List Int32} {am83 : List Int32} {am84 : List Int32} {am85 : List Int32} {am86 : List Int32} {am87 : List Int32} {am88 : List Int32}, rl_wX_findRegister_47 k J x2 f0_q f0_limit f0_size f0_workSize f0_rows f0_columns f0_rank f0_registerLength n x3 am81 am82 am83 am84 am85 am86 am87 am88 = true →
    wX_findRegister_47 post J37 x2 f0_q f0_limit f0_size f0_workSize f0_rows f0_columns f0_rank f0_registerLength n x3 (rl_f am81) (rl_f am82) (rl_f am83) (rl_f am84) (rl_f am85) (rl_f am86) (rl_f am87) (rl_f am88) := by
  induction n with
  | zero => intro x3 am81 am82 am83 am84 am85 am86 am87 am88 h; exact absurd (show false = true from h) (by decide)
  | succ n ih =>
    intro x3 am81 am82 am83 am84 am85 am86 am87 am88 h
    unfold rl_wX_findRegister_47 at h
    unfold wX_findRegister_47
    exact rl_iflt h (fun h => rl_ins h (fun h => rl_ins h (fun h => rl_nu h (fun am86_116 h => rl_nm h (fun x2_117 h => hJ _ _ _ _ _ _ _ _ _ h))))) (fun h => rl_ins h (fun h => rl_ins h (fun h => rl_nu h (fun am86_120 h => rl_nm h (fun x3_121 h => ih h)))))
theorem rs_wX_findRegister_37 {k : rl_K1} {post : St2 → Prop} (hk : rl_H1 k post) {f0_q : Int32} {f0_limit : Int32} {f0_size : Int32} {f0_workSize : Int32} {f0_rows : Int32} {f0_columns : Int32} {f0_rank : Int32} {f0_registerLength : Int32} (n : Nat) : ∀ {x2 : Int32} {am81 : List Int32} {am82 : List Int32} {am83 : List Int32} {am84 : List Int32} {am85 : List Int32} {am86 : List Int32} {am87 : List Int32} {am88 : List Int32}, rl_wX_findRegister_37 k f0_q f0_limit f0_size f0_workSize f0_rows f0_columns f0_rank f0_registerLength n x2 am81 am82 am83 am84 am85 am86 am87 am88 = true →
    wX_findRegister_37 post f0_q f0_limit f0_size f0_workSize f0_rows f0_columns f0_rank f0_registerLength n x2 (rl_f am81) (rl_f am82) (rl_f am83) (rl_f am84) (rl_f am85) (rl_f am86) (rl_f am87) (rl_f am88) := by
  induction n with
  | zero => intro x2 am81 am82 am83 am84 am85 am86 am87 am88 h; exact absurd (show false = true from h) (by decide)
  | succ n ih =>
    intro x2 am81 am82 am83 am84 am85 am86 am87 am88 h
    unfold rl_wX_findRegister_37 at h
    unfold wX_findRegister_37
    exact rl_ifle h (fun h => rs_wpX_eliminate h (fun f0_q_70 f0_limit_71 f0_size_72 f0_workSize_73 f0_rows_74 f0_columns_75 f0_rank_76 f0_registerLength_77 am1191_80 am1192_83 am1193_86 am1194_89 am1195_92 am1196_95 am1197_98 am1198_101 h => ⟨40, rs_wX_findRegister_124 hk _ h⟩)) (fun h => ⟨40, rs_wX_findRegister_47 hk (fun _ _ _ _ _ _ _ _ _ h => ih h) _ h⟩)
theorem rs_wpX_findRegister {k : rl_K1} {post : St2 → Prop} {f0_q : Int32} {f0_limit : Int32} {f0_size : Int32} {f0_workSize : Int32} {f0_rows : Int32} {f0_columns : Int32} {f0_rank : Int32} {f0_registerLength : Int32} {a1 : List Int32} {a2 : List Int32} {a3 : List Int32} {a4 : List Int32} {a5 : List Int32} {a6 : List Int32} {a7 : List Int32} {a8 : List Int32} {p0 : Int32} (h : rl_wpX_findRegister k f0_q f0_limit f0_size f0_workSize f0_rows f0_columns f0_rank f0_registerLength a1 a2 a3 a4 a5 a6 a7 a8 p0 = true) (hk : rl_H1 k post) :
    wpX_findRegister post (f0_q, f0_limit, f0_size, f0_workSize, f0_rows, f0_columns, f0_rank, f0_registerLength, rl_f a1, rl_f a2, rl_f a3, rl_f a4, rl_f a5, rl_f a6, rl_f a7, rl_f a8) p0 := by
  unfold rl_wpX_findRegister at h
  unfold wpX_findRegister
  dsimp only
  exact rs_wpX_take h (fun f0_q_2 f0_limit_3 f0_size_4 f0_workSize_5 f0_rows_6 f0_columns_7 f0_rank_8 f0_registerLength_9 am31_12 am32_15 am33_18 am34_21 am35_24 am36_27 am37_30 am38_33 h => rs_wpX_shortest h (fun r_34 f0_q_35 f0_limit_36 f0_size_37 f0_workSize_38 f0_rows_39 f0_columns_40 f0_rank_41 f0_registerLength_42 am81_45 am82_48 am83_51 am84_54 am85_57 am86_60 am87_63 am88_66 h => rl_nm h (fun f_67 h => ⟨40, rs_wX_findRegister_37 hk _ h⟩)))
theorem rs_wX_registers_15 {k : rl_K2} {post : Int32 → St2 → Prop} (hk : rl_H2 k post) {f0_q : Int32} {f0_limit : Int32} {f0_size : Int32} {f0_workSize : Int32} {f0_rows : Int32} {f0_columns : Int32} {f0_rank : Int32} {f0_registerLength : Int32} {am51 : List Int32} {am52 : List Int32} {am53 : List Int32} {am54 : List Int32} {am55 : List Int32} {am56 : List Int32} {am57 : List Int32} {am58 : List Int32} (n : Nat) : ∀ {x1 : Int32} {x2 : Int32}, rl_wX_registers_15 k f0_q f0_limit f0_size f0_workSize f0_rows f0_columns f0_rank f0_registerLength am51 am52 am53 am54 am55 am56 am57 am58 n x1 x2 = true →
    wX_registers_15 post f0_q f0_limit f0_size f0_workSize f0_rows f0_columns f0_rank f0_registerLength (rl_f am51) (rl_f am52) (rl_f am53) (rl_f am54) (rl_f am55) (rl_f am56) (rl_f am57) (rl_f am58) n x1 x2 := by
  induction n with
  | zero => intro x1 x2 h; exact absurd (show false = true from h) (by decide)
  | succ n ih =>
    intro x1 x2 h
    unfold rl_wX_registers_15 at h
    unfold wX_registers_15
    exact rl_ifle h (fun h => hk _ _ _ _ _ _ _ _ _ _ _ _ _ _ _ _ _ h) (fun h => rl_nm h (fun x1_35 h => rl_nm h (fun x2_36 h => ih h)))
theorem rs_wpX_registers {k : rl_K2} {post : Int32 → St2 → Prop} {f0_q : Int32} {f0_limit : Int32} {f0_size : Int32} {f0_workSize : Int32} {f0_rows : Int32} {f0_columns : Int32} {f0_rank : Int32} {f0_registerLength : Int32} {a1 : List Int32} {a2 : List Int32} {a3 : List Int32} {a4 : List Int32} {a5 : List Int32} {a6 : List Int32} {a7 : List Int32} {a8 : List Int32} (h : rl_wpX_registers k f0_q f0_limit f0_size f0_workSize f0_rows f0_columns f0_rank f0_registerLength a1 a2 a3 a4 a5 a6 a7 a8 = true) (hk : rl_H2 k post) :
    wpX_registers post (f0_q, f0_limit, f0_size, f0_workSize, f0_rows, f0_columns, f0_rank, f0_registerLength, rl_f a1, rl_f a2, rl_f a3, rl_f a4, rl_f a5, rl_f a6, rl_f a7, rl_f a8)  := by
  unfold rl_wpX_registers at h
  unfold wpX_registers
  dsimp only
  exact rs_wpX_findRegister h (fun f0_q_2 f0_limit_3 f0_size_4 f0_workSize_5 f0_rows_6 f0_columns_7 f0_rank_8 f0_registerLength_9 am51_12 am52_15 am53_18 am54_21 am55_24 am56_27 am57_30 am58_33 h => ⟨40, rs_wX_registers_15 hk _ h⟩)
theorem rs_wpX_coefficient {k : rl_K2} {post : Int32 → St2 → Prop} {f0_q : Int32} {f0_limit : Int32} {f0_size : Int32} {f0_workSize : Int32} {f0_rows : Int32} {f0_columns : Int32} {f0_rank : Int32} {f0_registerLength : Int32} {a1 : List Int32} {a2 : List Int32} {a3 : List Int32} {a4 : List Int32} {a5 : List Int32} {a6 : List Int32} {a7 : List Int32} {a8 : List Int32} {p0 : Int32} (h : rl_wpX_coefficient k f0_q f0_limit f0_size f0_workSize f0_rows f0_columns f0_rank f0_registerLength a1 a2 a3 a4 a5 a6 a7 a8 p0 = true) (hk : rl_H2 k post) :
    wpX_coefficient post (f0_q, f0_limit, f0_size, f0_workSize, f0_rows, f0_columns, f0_rank, f0_registerLength, rl_f a1, rl_f a2, rl_f a3, rl_f a4, rl_f a5, rl_f a6, rl_f a7, rl_f a8) p0 := by
  unfold rl_wpX_coefficient at h
  unfold wpX_coefficient
  dsimp only
  exact rs_wpX_findRegister h (fun f0_q_2 f0_limit_3 f0_size_4 f0_workSize_5 f0_rows_6 f0_columns_7 f0_rank_8 f0_registerLength_9 am51_12 am52_15 am53_18 am54_21 am55_24 am56_27 am57_30 am58_33 h => rl_iflt h (fun h => hk _ _ _ _ _ _ _ _ _ _ _ _ _ _ _ _ _ h) (fun h => rl_ifle h (fun h => rl_ins h (fun h => hk _ _ _ _ _ _ _ _ _ _ _ _ _ _ _ _ _ (rl_foE h))) (fun h => hk _ _ _ _ _ _ _ _ _ _ _ _ _ _ _ _ _ h)))
theorem rs_wX_step_4 {k : rl_K1} {post : St2 → Prop} (hk : rl_H1 k post) {f0_q : Int32} {f0_limit : Int32} {f0_size : Int32} {f0_workSize : Int32} {f0_rows : Int32} {f0_columns : Int32} {f0_rank : Int32} {f0_registerLength : Int32} {a1 : List Int32} {a2 : List Int32} {a3 : List Int32} {a4 : List Int32} {a5 : List Int32} {a6 : List Int32} {a7 : List Int32} {a8 : List Int32} (n : Nat) : ∀ {x1 : Int32} {x2 : Int32}, rl_wX_step_4 k f0_q f0_limit f0_size f0_workSize f0_rows f0_columns f0_rank f0_registerLength a1 a2 a3 a4 a5 a6 a7 a8 n x1 x2 = true →
    wX_step_4 post f0_q f0_limit f0_size f0_workSize f0_rows f0_columns f0_rank f0_registerLength (rl_f a1) (rl_f a2) (rl_f a3) (rl_f a4) (rl_f a5) (rl_f a6) (rl_f a7) (rl_f a8) n x1 x2 := by
  induction n with
  | zero => intro x1 x2 h; exact absurd (show false = true from h) (by decide)
  | succ n ih =>
    intro x1 x2 h
    unfold rl_wX_step_4 at h
    unfold wX_step_4
    exact rl_iflt h (fun h => rl_nzs h (fun h => rl_ins h (fun h => rl_nu h (fun a2_4 h => rl_nm h (fun f_5 h => hk _ _ _ _ _ _ _ _ _ _ _ _ _ _ _ _ h))))) (fun h => rl_ins h (fun h => rl_ins h (fun h => rl_nm h (fun x1_8 h => rl_nm h (fun x2_9 h => ih h)))))
theorem rs_wpX_step {k : rl_K1} {post : St2 → Prop} {f0_q : Int32} {f0_limit : Int32} {f0_size : Int32} {f0_workSize : Int32} {f0_rows : Int32} {f0_columns : Int32} {f0_rank : Int32} {f0_registerLength : Int32} {a1 : List Int32} {a2 : List Int32} {a3 : List Int32} {a4 : List Int32} {a5 : List Int32} {a6 : List Int32} {a7 : List Int32} {a8 : List Int32} (h : rl_wpX_step k f0_q f0_limit f0_size f0_workSize f0_rows f0_columns f0_rank f0_registerLength a1 a2 a3 a4 a5 a6 a7 a8 = true) (hk : rl_H1 k post) :
    wpX_step post (f0_q, f0_limit, f0_size, f0_workSize, f0_rows, f0_columns, f0_rank, f0_registerLength, rl_f a1, rl_f a2, rl_f a3, rl_f a4, rl_f a5, rl_f a6, rl_f a7, rl_f a8)  := by
  unfold rl_wpX_step at h
  unfold wpX_step
  dsimp only
  exact ⟨40, rs_wX_step_4 hk _ h⟩
theorem rs_wX_predict_22 {k : rl_K2} {post : Int32 → St2 → Prop} (hk : rl_H2 k post) {x1 : Int32} (n : Nat) : ∀ {x2 : Int32} {f0_q : Int32} {f0_limit : Int32} {f0_size : Int32} {f0_workSize : Int32} {f0_rows : Int32} {f0_columns : Int32} {f0_rank : Int32} {f0_registerLength : Int32} {am171 : List Int32} {am172 : List Int32} {am173 : List Int32} {am174 : List Int32} {am175 : List Int32} {am176 : List Int32} {am177 : List Int32} {am178 : List Int32}, rl_wX_predict_22 k x1 n x2 f0_q f0_limit f0_size f0_workSize f0_rows f0_columns f0_rank f0_registerLength am171 am172 am173 am174 am175 am176 am177 am178 = true →
    wX_predict_22 post x1 n x2 f0_q f0_limit f0_size f0_workSize f0_rows f0_columns f0_rank f0_registerLength (rl_f am171) (rl_f am172) (rl_f am173) (rl_f am174) (rl_f am175) (rl_f am176) (rl_f am177) (rl_f am178) := by
  induction n with
  | zero => intro x2 f0_q f0_limit f0_size f0_workSize f0_rows f0_columns f0_rank f0_registerLength am171 am172 am173 am174 am175 am176 am177 am178 h; exact absurd (show false = true from h) (by decide)
  | succ n ih =>
    intro x2 f0_q f0_limit f0_size f0_workSize f0_rows f0_columns f0_rank f0_registerLength am171 am172 am173 am174 am175 am176 am177 am178 h
    unfold rl_wX_predict_22 at h
    unfold wX_predict_22
    exact rl_iflt h (fun h => rl_ins h (fun h => hk _ _ _ _ _ _ _ _ _ _ _ _ _ _ _ _ _ (rl_foE h))) (fun h => rs_wpX_step h (fun f0_q_39 f0_limit_40 f0_size_41 f0_workSize_42 f0_rows_43 f0_columns_44 f0_rank_45 f0_registerLength_46 am281_49 am282_52 am283_55 am284_58 am285_61 am286_64 am287_67 am288_70 h => rl_nm h (fun x2_71 h => ih h)))
theorem rs_wpX_predict {k : rl_K2} {post : Int32 → St2 → Prop} {f0_q : Int32} {f0_limit : Int32} {f0_size : Int32} {f0_workSize : Int32} {f0_rows : Int32} {f0_columns : Int32} {f0_rank : Int32} {f0_registerLength : Int32} {a1 : List Int32} {a2 : List Int32} {a3 : List Int32} {a4 : List Int32} {a5 : List Int32} {a6 : List Int32} {a7 : List Int32} {a8 : List Int32} {p0 : Int32} (h : rl_wpX_predict k f0_q f0_limit f0_size f0_workSize f0_rows f0_columns f0_rank f0_registerLength a1 a2 a3 a4 a5 a6 a7 a8 p0 = true) (hk : rl_H2 k post) :
    wpX_predict post (f0_q, f0_limit, f0_size, f0_workSize, f0_rows, f0_columns, f0_rank, f0_registerLength, rl_f a1, rl_f a2, rl_f a3, rl_f a4, rl_f a5, rl_f a6, rl_f a7, rl_f a8) p0 := by
  unfold rl_wpX_predict at h
  unfold wpX_predict
  dsimp only
  exact rl_iflt h (fun h => hk _ _ _ _ _ _ _ _ _ _ _ _ _ _ _ _ _ h) (fun h => rl_ifle h (fun h => rs_wpX_findRegister h (fun f0_q_4 f0_limit_5 f0_size_6 f0_workSize_7 f0_rows_8 f0_columns_9 f0_rank_10 f0_registerLength_11 am171_14 am172_17 am173_20 am174_23 am175_26 am176_29 am177_32 am178_35 h => ⟨40, rs_wX_predict_22 hk _ h⟩)) (fun h => hk _ _ _ _ _ _ _ _ _ _ _ _ _ _ _ _ _ h))
theorem rs_wX_complexityBackwards_12 {k : rl_K2} {post : Int32 → St2 → Prop} (hk : rl_H2 k post) {f0_q : Int32} {f0_limit : Int32} {f0_size : Int32} {f0_rows : Int32} {f0_columns : Int32} {f0_rank : Int32} {f0_registerLength : Int32} (n : Nat) : ∀ {x1 : Int32} {f0_workSize : Int32} {a1 : List Int32} {a2 : List Int32} {a3 : List Int32} {a4 : List Int32} {a5 : List Int32} {a6 : List Int32} {a7 : List Int32} {a8 : List Int32}, rl_wX_complexityBackwards_12 k f0_q f0_limit f0_size f0_rows f0_columns f0_rank f0_registerLength n x1 f0_workSize a1 a2 a3 a4 a5 a6 a7 a8 = true →
    wX_complexityBackwards_12 post f0_q f0_limit f0_size f0_rows f0_columns f0_rank f0_registerLength n x1 f0_workSize (rl_f a1) (rl_f a2) (rl_f a3) (rl_f a4) (rl_f a5) (rl_f a6) (rl_f a7) (rl_f a8) := by
  induction n with
  | zero => intro x1 f0_workSize a1 a2 a3 a4 a5 a6 a7 a8 h; exact absurd (show false = true from h) (by decide)
  | succ n ih =>
    intro x1 f0_workSize a1 a2 a3 a4 a5 a6 a7 a8 h
    unfold rl_wX_complexityBackwards_12 at h
    unfold wX_complexityBackwards_12
    exact rl_iflt h (fun h => rs_wpX_shortest h (fun r_3 f0_q_4 f0_limit_5 f0_size_6 f0_workSize_7 f0_rows_8 f0_columns_9 f0_rank_10 f0_registerLength_11 am481_14 am482_17 am483_20 am484_23 am485_26 am486_29 am487_32 am488_35 h => hk _ _ _ _ _ _ _ _ _ _ _ _ _ _ _ _ _ h)) (fun h => rl_ins h (fun h => rl_ins h (fun h => rl_nu h (fun a2_38 h => rl_nm h (fun f_39 h => rl_nm h (fun x1_40 h => ih h))))))
theorem rs_wpX_complexityBackwards {k : rl_K2} {post : Int32 → St2 → Prop} {f0_q : Int32} {f0_limit : Int32} {f0_size : Int32} {f0_workSize : Int32} {f0_rows : Int32} {f0_columns : Int32} {f0_rank : Int32} {f0_registerLength : Int32} {a1 : List Int32} {a2 : List Int32} {a3 : List Int32} {a4 : List Int32} {a5 : List Int32} {a6 : List Int32} {a7 : List Int32} {a8 : List Int32} (h : rl_wpX_complexityBackwards k f0_q f0_limit f0_size f0_workSize f0_rows f0_columns f0_rank f0_registerLength a1 a2 a3 a4 a5 a6 a7 a8 = true) (hk : rl_H2 k post) :
    wpX_complexityBackwards post (f0_q, f0_limit, f0_size, f0_workSize, f0_rows, f0_columns, f0_rank, f0_registerLength, rl_f a1, rl_f a2, rl_f a3, rl_f a4, rl_f a5, rl_f a6, rl_f a7, rl_f a8)  := by
  unfold rl_wpX_complexityBackwards at h
  unfold wpX_complexityBackwards
  dsimp only
  exact rl_nm h (fun x1_1 h => ⟨40, rs_wX_complexityBackwards_12 hk _ h⟩)
theorem rs_wpX_complexityWith {k : rl_K2} {post : Int32 → St2 → Prop} {f0_q : Int32} {f0_limit : Int32} {f0_size : Int32} {f0_workSize : Int32} {f0_rows : Int32} {f0_columns : Int32} {f0_rank : Int32} {f0_registerLength : Int32} {a1 : List Int32} {a2 : List Int32} {a3 : List Int32} {a4 : List Int32} {a5 : List Int32} {a6 : List Int32} {a7 : List Int32} {a8 : List Int32} {p0 : Int32} (h : rl_wpX_complexityWith k f0_q f0_limit f0_size f0_workSize f0_rows f0_columns f0_rank f0_registerLength a1 a2 a3 a4 a5 a6 a7 a8 p0 = true) (hk : rl_H2 k post) :
    wpX_complexityWith post (f0_q, f0_limit, f0_size, f0_workSize, f0_rows, f0_columns, f0_rank, f0_registerLength, rl_f a1, rl_f a2, rl_f a3, rl_f a4, rl_f a5, rl_f a6, rl_f a7, rl_f a8) p0 := by
  unfold rl_wpX_complexityWith at h
  unfold wpX_complexityWith
  dsimp only
  exact rs_wpX_isSymbol h (fun r_1 h => rl_ifeq h (fun h => hk _ _ _ _ _ _ _ _ _ _ _ _ _ _ _ _ _ h) (fun h => rs_wpX_take h (fun f0_q_4 f0_limit_5 f0_size_6 f0_workSize_7 f0_rows_8 f0_columns_9 f0_rank_10 f0_registerLength_11 am161_14 am162_17 am163_20 am164_23 am165_26 am166_29 am167_32 am168_35 h => rl_ins h (fun h => rl_nu h (fun am162_37 h => rl_nm h (fun f_38 h => rs_wpX_shortest h (fun r_39 f0_q_40 f0_limit_41 f0_size_42 f0_workSize_43 f0_rows_44 f0_columns_45 f0_rank_46 f0_registerLength_47 am411_50 am412_53 am413_56 am414_59 am415_62 am416_65 am417_68 am418_71 h => hk _ _ _ _ _ _ _ _ _ _ _ _ _ _ _ _ _ h)))))))
theorem rs_wL_lawOf_214 {k : rl_K0} {post : Int32 → St0 → Prop} {mc : Nat} {ms : Nat} {z0 : Int32} {z1 : Int32} {kc : Nat} {ks : Nat} (h : rl_wL_lawOf_214 k z0 z1 = true) (hk : rl_HL k post) :
    wL_lawOf_214 post mc ms z0 z1 kc ks := by
  unfold rl_wL_lawOf_214 at h
  unfold wL_lawOf_214
  exact rl_ifeq h (fun h => hk _ h) (fun h => hk _ h)
theorem rs_wL_lawOf_156 {k : rl_K0} {post : Int32 → St0 → Prop} {mc : Nat} {ms : Nat} {x4 : Int32} {x6 : Int32} {x7 : Int32} {x8 : Int32} {x9 : Int32} {x10 : Int32} {x11 : Int32} {x12 : Int32} {x13 : Int32} {x14 : Int32} {z0 : Int32} {kc : Nat} {ks : Nat} (h : rl_wL_lawOf_156 k x4 x6 x7 x8 x9 x10 x11 x12 x13 x14 z0 = true) (hk : rl_HL k post) :
    wL_lawOf_156 post mc ms x4 x6 x7 x8 x9 x10 x11 x12 x13 x14 z0 kc ks := by
  unfold rl_wL_lawOf_156 at h
  unfold wL_lawOf_156
  exact rl_ifeq h (fun h => rl_ifeq h (fun h => rl_ifeq h (fun h => hk _ h) (fun h => rl_ifeq h (fun h => rl_nzs h (fun h => rl_ifeq h (fun h => rl_ifeq h (fun h => rl_ifeq h (fun h => rs_wL_lawOf_214 h hk) (fun h => rs_wL_lawOf_214 h hk)) (fun h => hk _ h)) (fun h => hk _ h))) (fun h => hk _ h))) (fun h => hk _ h)) (fun h => hk _ h)
theorem rs_wL_lawOf_144 {k : rl_K0} {post : Int32 → St0 → Prop} {mc : Nat} {ms : Nat} {x4 : Int32} {x6 : Int32} {x7 : Int32} {x8 : Int32} {x9 : Int32} {x10 : Int32} {x11 : Int32} {x12 : Int32} {x13 : Int32} {z0 : Int32} {kc : Nat} {ks : Nat} (h : rl_wL_lawOf_144 k x4 x6 x7 x8 x9 x10 x11 x12 x13 z0 = true) (hk : rl_HL k post) :
    wL_lawOf_144 post mc ms x4 x6 x7 x8 x9 x10 x11 x12 x13 z0 kc ks := by
  unfold rl_wL_lawOf_144 at h
  unfold wL_lawOf_144
  exact rl_ifeq h (fun h => rs_wL_lawOf_156 h hk) (fun h => rs_wL_lawOf_156 h hk)
theorem rs_wL_lawOf_143 {k : rl_K0} {post : Int32 → St0 → Prop} {mc : Nat} {ms : Nat} {x4 : Int32} {x6 : Int32} {x7 : Int32} {x8 : Int32} {x9 : Int32} {x10 : Int32} {x11 : Int32} {x12 : Int32} {x13 : Int32} {kc : Nat} {ks : Nat} (h : rl_wL_lawOf_143 k x4 x6 x7 x8 x9 x10 x11 x12 x13 = true) (hk : rl_HL k post) :
    wL_lawOf_143 post mc ms x4 x6 x7 x8 x9 x10 x11 x12 x13 kc ks := by
  unfold rl_wL_lawOf_143 at h
  unfold wL_lawOf_143
  exact rs_wL_lawOf_144 h hk
theorem rs_wL_lawOf_27 {k : rl_K0} {post : Int32 → St0 → Prop} {mc : Nat} {ms : Nat} {x1 : Int32} {x2 : Int32} {z0 : Int32} {kc : Nat} {ks : Nat} {fm0_q : Int32} {fm0_limit : Int32} {fm0_size : Int32} {fm0_workSize : Int32} {fm0_rows : Int32} {fm0_columns : Int32} {fm0_rank : Int32} {fm0_registerLength : Int32} {am51 : List Int32} {am52 : List Int32} {am53 : List Int32} {am54 : List Int32} {am55 : List Int32} {am56 : List Int32} {am57 : List Int32} {am58 : List Int32} {x5_44 x6_46 : Int32} (hz : ¬ z0 = 0) (e1 : (x1 &&& 65535) - (x1 &&& 65535) / z0 * z0 = x5_44) (e2 : (x2 &&& 65535) - (x2 &&& 65535) / z0 * z0 = x6_46) (h : rl_wL_lawOf_27 k x5_44 x6_46 z0 fm0_q fm0_limit fm0_size fm0_workSize fm0_rows fm0_columns fm0_rank fm0_registerLength am51 am52 am53 am54 am55 am56 am57 am58 = true) (hk : rl_HL k post) :
    wL_lawOf_27 post mc ms x1 x2 z0 kc ks fm0_q fm0_limit fm0_size fm0_workSize fm0_rows fm0_columns fm0_rank fm0_registerLength (rl_f am51) (rl_f am52) (rl_f am53) (rl_f am54) (rl_f am55) (rl_f am56) (rl_f am57) (rl_f am58) := by
  unfold rl_wL_lawOf_27 at h
  unfold wL_lawOf_27
  refine ⟨hz, nm_r e1 ⟨hz, nm_r e2 ?_⟩⟩
  exact rs_wpX_append h (fun r_47 fm0_q_48 fm0_limit_49 fm0_size_50 fm0_workSize_51 fm0_rows_52 fm0_columns_53 fm0_rank_54 fm0_registerLength_55 am501_58 am502_61 am503_64 am504_67 am505_70 am506_73 am507_76 am508_79 h => rs_wpX_append h (fun r_80 fm0_q_81 fm0_limit_82 fm0_size_83 fm0_workSize_84 fm0_rows_85 fm0_columns_86 fm0_rank_87 fm0_registerLength_88 am571_91 am572_94 am573_97 am574_100 am575_103 am576_106 am577_109 am578_112 h => rs_wpX_complexity h (fun r_113 fm0_q_114 fm0_limit_115 fm0_size_116 fm0_workSize_117 fm0_rows_118 fm0_columns_119 fm0_rank_120 fm0_registerLength_121 am641_124 am642_127 am643_130 am644_133 am645_136 am646_139 am647_142 am648_145 h => rs_wpX_registers h (fun r_146 fm0_q_147 fm0_limit_148 fm0_size_149 fm0_workSize_150 fm0_rows_151 fm0_columns_152 fm0_rank_153 fm0_registerLength_154 am701_157 am702_160 am703_163 am704_166 am705_169 am706_172 am707_175 am708_178 h => rs_wpX_coefficient h (fun r_179 fm0_q_180 fm0_limit_181 fm0_size_182 fm0_workSize_183 fm0_rows_184 fm0_columns_185 fm0_rank_186 fm0_registerLength_187 am771_190 am772_193 am773_196 am774_199 am775_202 am776_205 am777_208 am778_211 h => rs_wpX_coefficient h (fun r_212 fm0_q_213 fm0_limit_214 fm0_size_215 fm0_workSize_216 fm0_rows_217 fm0_columns_218 fm0_rank_219 fm0_registerLength_220 am841_223 am842_226 am843_229 am844_232 am845_235 am846_238 am847_241 am848_244 h => rs_wpX_predict h (fun r_245 fm0_q_246 fm0_limit_247 fm0_size_248 fm0_workSize_249 fm0_rows_250 fm0_columns_251 fm0_rank_252 fm0_registerLength_253 am911_256 am912_259 am913_262 am914_265 am915_268 am916_271 am917_274 am918_277 h => rs_wpX_complexityBackwards h (fun r_278 fm0_q_279 fm0_limit_280 fm0_size_281 fm0_workSize_282 fm0_rows_283 fm0_columns_284 fm0_rank_285 fm0_registerLength_286 am971_289 am972_292 am973_295 am974_298 am975_301 am976_304 am977_307 am978_310 h => rs_wpX_complexityWith h (fun r_311 fm0_q_312 fm0_limit_313 fm0_size_314 fm0_workSize_315 fm0_rows_316 fm0_columns_317 fm0_rank_318 fm0_registerLength_319 am1041_322 am1042_325 am1043_328 am1044_331 am1045_334 am1046_337 am1047_340 am1048_343 h => rl_ifeq h (fun h => rl_ifeq h (fun h => rl_ifeq h (fun h => rl_ifeq h (fun h => rl_ifeq h (fun h => rl_ifeq h (fun h => rl_ifeq h (fun h => rl_ifeq h (fun h => rl_ifeq h (fun h => hk _ h) (fun h => hk _ h)) (fun h => hk _ h)) (fun h => hk _ h)) (fun h => hk _ h)) (fun h => hk _ h)) (fun h => hk _ h)) (fun h => hk _ h)) (fun h => rl_ifeq h (fun h => rl_ifeq h (fun h => rl_ifeq h (fun h => rl_ifeq h (fun h => rl_ifeq h (fun h => rl_ifeq h (fun h => rl_ifeq h (fun h => hk _ h) (fun h => hk _ h)) (fun h => hk _ h)) (fun h => hk _ h)) (fun h => hk _ h)) (fun h => hk _ h)) (fun h => hk _ h)) (fun h => hk _ h))) (fun h => rl_iflt h (fun h => rs_wL_lawOf_143 h hk) (fun h => rl_ifle h (fun h => rs_wL_lawOf_143 h hk) (fun h => rl_nzs h (fun h => rl_ifeq h (fun h => rs_wL_lawOf_144 h hk) (fun h => rs_wL_lawOf_143 h hk))))))))))))))
end
section
/-- the copy of the law's body, a fresh object of modulus q, the symbols a and b -/
noncomputable def rl_E (q lim : Int32) (a b : Nat) : Bool := rl_fo (nI a) (fun v => rl_fo (nI b) (fun w => rl_wL_lawOf_27 (fun r => rl_eq r 1) v w q q lim 0 0 0 0 0 0 [0, 0] [0, 0, 0, 0] [0, 0, 0, 0] [0, 0, 0, 0] [0, 0, 0, 0] [0, 0, 0, 0, 0, 0, 0, 0, 0, 0, 0, 0, 0, 0, 0] [0, 0] [0, 0, 0]))
theorem re_2_0 : ∀ b, b < 2 → rl_E 2 12 0 b = true := by decide +kernel
theorem re_2_1 : ∀ b, b < 2 → rl_E 2 12 1 b = true := by decide +kernel
theorem re_2 : ∀ a, a < 2 → ∀ b, b < 2 → rl_E 2 12 a b = true := fun a ha => match a, ha with | 0, _ => re_2_0 | 1, _ => re_2_1 | n + 2, h => absurd h (by omega)
theorem re_3_0 : ∀ b, b < 3 → rl_E 3 7 0 b = true := by decide +kernel
theorem re_3_1 : ∀ b, b < 3 → rl_E 3 7 1 b = true := by decide +kernel
theorem re_3_2 : ∀ b, b < 3 → rl_E 3 7 2 b = true := by decide +kernel
theorem re_3 : ∀ a, a < 3 → ∀ b, b < 3 → rl_E 3 7 a b = true := fun a ha => match a, ha with | 0, _ => re_3_0 | 1, _ => re_3_1 | 2, _ => re_3_2 | n + 3, h => absurd h (by omega)
theorem re_5_0 : ∀ b, b < 5 → rl_E 5 5 0 b = true := by decide +kernel
theorem re_5_1 : ∀ b, b < 5 → rl_E 5 5 1 b = true := by decide +kernel
theorem re_5_2 : ∀ b, b < 5 → rl_E 5 5 2 b = true := by decide +kernel
theorem re_5_3 : ∀ b, b < 5 → rl_E 5 5 3 b = true := by decide +kernel
theorem re_5_4 : ∀ b, b < 5 → rl_E 5 5 4 b = true := by decide +kernel
theorem re_5 : ∀ a, a < 5 → ∀ b, b < 5 → rl_E 5 5 a b = true := fun a ha => match a, ha with | 0, _ => re_5_0 | 1, _ => re_5_1 | 2, _ => re_5_2 | 3, _ => re_5_3 | 4, _ => re_5_4 | n + 5, h => absurd h (by omega)
end
section
theorem rl_z : ∀ n : Nat, rl_f (List.replicate n 0) = fun _ => 0 := by
  intro n
  induction n with
  | zero => exact funext (fun _ => rfl)
  | succ n ih =>
    refine funext (fun i => ?_)
    cases i with
    | zero => rfl
    | succ i => exact congrFun ih i
theorem rl_E_ok {q lim : Int32} {a b : Nat} (h : rl_E q lim a b = true) : rl_wL_lawOf_27 (fun r => rl_eq r 1) (nI a) (nI b) q q lim 0 0 0 0 0 0 [0, 0] [0, 0, 0, 0] [0, 0, 0, 0] [0, 0, 0, 0] [0, 0, 0, 0] [0, 0, 0, 0, 0, 0, 0, 0, 0, 0, 0, 0, 0, 0, 0] [0, 0] [0, 0, 0] = true := by
  unfold rl_E at h
  have h1 := rl_foE h
  have h2 := rl_foE h1
  exact h2
theorem rl_z2 : rl_f [0, 0] = fun _ => 0 := rl_z 2
theorem rl_z3 : rl_f [0, 0, 0] = fun _ => 0 := rl_z 3
theorem rl_z4 : rl_f [0, 0, 0, 0] = fun _ => 0 := rl_z 4
theorem rl_z15 : rl_f [0, 0, 0, 0, 0, 0, 0, 0, 0, 0, 0, 0, 0, 0, 0] = fun _ => 0 := rl_z 15
theorem rf_2 {mc ms kc ks : Nat} (x1 x2 : Int32) : wL_lawOf_27 (fun r _ => r = 1) mc ms x1 x2 2 kc ks 2 12 0 0 0 0 0 0 (fun _ => 0) (fun _ => 0) (fun _ => 0) (fun _ => 0) (fun _ => 0) (fun _ => 0) (fun _ => 0) (fun _ => 0) := by
  obtain ⟨i, hi, ei⟩ := pk_andE x1 (m := 65535) 16 (by decide)
  obtain ⟨j, hj, ej⟩ := pk_andE x2 (m := 65535) 16 (by decide)
  have e1 : (x1 &&& 65535) - (x1 &&& 65535) / 2 * 2 = nI (i % 2) := by
    rw [ei]
    exact pk_rem (d := 2) (by omega) (by decide) (by decide)
  have e2 : (x2 &&& 65535) - (x2 &&& 65535) / 2 * 2 = nI (j % 2) := by
    rw [ej]
    exact pk_rem (d := 2) (by omega) (by decide) (by decide)
  have hE : rl_wL_lawOf_27 (fun r => rl_eq r 1) (nI (i % 2)) (nI (j % 2)) 2 2 12 0 0 0 0 0 0 [0, 0] [0, 0, 0, 0] [0, 0, 0, 0] [0, 0, 0, 0] [0, 0, 0, 0] [0, 0, 0, 0, 0, 0, 0, 0, 0, 0, 0, 0, 0, 0, 0] [0, 0] [0, 0, 0] = true := rl_E_ok (re_2 (i % 2) (Nat.mod_lt _ (by decide)) (j % 2) (Nat.mod_lt _ (by decide)))
  have t := rs_wL_lawOf_27 (post := fun r _ => r = 1) (mc := mc) (ms := ms) (kc := kc) (ks := ks) (by decide) e1 e2 hE (fun r h => rl_eq_iff.mp h)
  rw [rl_z2, rl_z3, rl_z4, rl_z15] at t
  exact t
theorem rf_3 {mc ms kc ks : Nat} (x1 x2 : Int32) : wL_lawOf_27 (fun r _ => r = 1) mc ms x1 x2 3 kc ks 3 7 0 0 0 0 0 0 (fun _ => 0) (fun _ => 0) (fun _ => 0) (fun _ => 0) (fun _ => 0) (fun _ => 0) (fun _ => 0) (fun _ => 0) := by
  obtain ⟨i, hi, ei⟩ := pk_andE x1 (m := 65535) 16 (by decide)
  obtain ⟨j, hj, ej⟩ := pk_andE x2 (m := 65535) 16 (by decide)
  have e1 : (x1 &&& 65535) - (x1 &&& 65535) / 3 * 3 = nI (i % 3) := by
    rw [ei]
    exact pk_rem (d := 3) (by omega) (by decide) (by decide)
  have e2 : (x2 &&& 65535) - (x2 &&& 65535) / 3 * 3 = nI (j % 3) := by
    rw [ej]
    exact pk_rem (d := 3) (by omega) (by decide) (by decide)
  have hE : rl_wL_lawOf_27 (fun r => rl_eq r 1) (nI (i % 3)) (nI (j % 3)) 3 3 7 0 0 0 0 0 0 [0, 0] [0, 0, 0, 0] [0, 0, 0, 0] [0, 0, 0, 0] [0, 0, 0, 0] [0, 0, 0, 0, 0, 0, 0, 0, 0, 0, 0, 0, 0, 0, 0] [0, 0] [0, 0, 0] = true := rl_E_ok (re_3 (i % 3) (Nat.mod_lt _ (by decide)) (j % 3) (Nat.mod_lt _ (by decide)))
  have t := rs_wL_lawOf_27 (post := fun r _ => r = 1) (mc := mc) (ms := ms) (kc := kc) (ks := ks) (by decide) e1 e2 hE (fun r h => rl_eq_iff.mp h)
  rw [rl_z2, rl_z3, rl_z4, rl_z15] at t
  exact t
theorem rf_5 {mc ms kc ks : Nat} (x1 x2 : Int32) : wL_lawOf_27 (fun r _ => r = 1) mc ms x1 x2 5 kc ks 5 5 0 0 0 0 0 0 (fun _ => 0) (fun _ => 0) (fun _ => 0) (fun _ => 0) (fun _ => 0) (fun _ => 0) (fun _ => 0) (fun _ => 0) := by
  obtain ⟨i, hi, ei⟩ := pk_andE x1 (m := 65535) 16 (by decide)
  obtain ⟨j, hj, ej⟩ := pk_andE x2 (m := 65535) 16 (by decide)
  have e1 : (x1 &&& 65535) - (x1 &&& 65535) / 5 * 5 = nI (i % 5) := by
    rw [ei]
    exact pk_rem (d := 5) (by omega) (by decide) (by decide)
  have e2 : (x2 &&& 65535) - (x2 &&& 65535) / 5 * 5 = nI (j % 5) := by
    rw [ej]
    exact pk_rem (d := 5) (by omega) (by decide) (by decide)
  have hE : rl_wL_lawOf_27 (fun r => rl_eq r 1) (nI (i % 5)) (nI (j % 5)) 5 5 5 0 0 0 0 0 0 [0, 0] [0, 0, 0, 0] [0, 0, 0, 0] [0, 0, 0, 0] [0, 0, 0, 0] [0, 0, 0, 0, 0, 0, 0, 0, 0, 0, 0, 0, 0, 0, 0] [0, 0] [0, 0, 0] = true := rl_E_ok (re_5 (i % 5) (Nat.mod_lt _ (by decide)) (j % 5) (Nat.mod_lt _ (by decide)))
  have t := rs_wL_lawOf_27 (post := fun r _ => r = 1) (mc := mc) (ms := ms) (kc := kc) (ks := ks) (by decide) e1 e2 hE (fun r h => rl_eq_iff.mp h)
  rw [rl_z2, rl_z3, rl_z4, rl_z15] at t
  exact t
theorem rf_cell {post : Int32 → Prop} {L : Nat} {xs : Nat → Int32} {p : Int32} (k : Nat) (hp : p = nI k) (hk : k < 3) (hL : L ≤ 3) (H : ∀ r, post r) : wpL_cellAt post L xs () p := by
  subst hp
  exact ⟨fun _ => H _, fun c => ⟨vp_in_nI (Nat.lt_of_not_le (fun z => c (nI_le z (by omega)))) (by omega), H _⟩⟩
theorem rf_law (p0 p1 p2 : Int32) : wpL_lawOf (fun r _ => r = 1) 78 1232 () p0 p1 p2 := by
  refine ⟨by decide, by decide, 77, 1216, by decide, by decide, ?_⟩
  refine ⟨by decide, by decide, by decide, by decide, by decide, by decide, by decide, by decide, by decide, by decide, by decide, by decide, by decide, by decide, by decide, by decide, ?_⟩
  exact br_c (fun h1 => br_c (fun h2 => br_t h1 (br_t h2 (rf_3 p1 p2))) (fun h2 => br_t h1 (br_f h2 (rf_5 p1 p2)))) (fun h1 => br_f h1 (rf_2 p1 p2))
theorem i_vc (xs : Nat → Int32) (L : Nat) (hL : L ≤ 3) : wpL_law (fun r => r = 1) L xs :=
  rf_cell 0 rfl (by decide) hL (fun r1 => rf_cell 1 rfl (by decide) hL (fun r2 => rf_cell 2 rfl (by decide) hL (fun r3 => ⟨78, 1232, by decide, by decide, rf_law r1 r2 r3⟩)))
end
