section
theorem pk_us {f : Nat → Int32} {k : Nat} {x : Int32} : upd f k x k = x := if_pos rfl
theorem pk_un {f : Nat → Int32} {k j : Nat} {x : Int32} (h : j ≠ k) : upd f k x j = f j := if_neg h
theorem pk_uLs {f : Nat → Int64} {k : Nat} {x : Int64} : vp_updL f k x k = x := if_pos rfl
theorem pk_uLn {f : Nat → Int64} {k j : Nat} {x : Int64} (h : j ≠ k) : vp_updL f k x j = f j := if_neg h
theorem pk_sub {a b : Nat} (h : b ≤ a) : nI a - nI b = nI (a - b) := by
  obtain ⟨c, rfl⟩ : ∃ c, a = c + b := ⟨a - b, by omega⟩
  rw [← nI_add, Int32.add_sub_cancel, Nat.add_sub_cancel]
theorem pk_m1 (n : Nat) : nI (n + 1) + (-1) = nI n := by
  rw [← nI_1, Int32.add_assoc, show (1 : Int32) + (-1) = 0 from rfl, Int32.add_zero]
theorem pk_mul (a b : Nat) : nI a * nI b = nI (a * b) := (Int32.ofNat_mul a b).symm
theorem pk_div {a d : Nat} (ha : a < 2 ^ 31) (h0 : 0 < d) (hd : d < 2 ^ 31) : nI a / nI d = nI (a / d) := by
  apply Int32.toInt_inj.mp
  rw [lg_idiv_nonneg (by rw [nI_toInt ha]; omega) (by rw [nI_toInt hd]; omega), nI_toInt ha, nI_toInt hd, nI_toInt (Nat.lt_of_le_of_lt (Nat.div_le_self a d) ha)]
  first | rfl | exact (Int.natCast_ediv _ _).symm
theorem pk_rem {a d : Nat} (ha : a < 2 ^ 31) (h0 : 0 < d) (hd : d < 2 ^ 31) : nI a - nI a / nI d * nI d = nI (a % d) := by
  rw [pk_div ha h0 hd, pk_mul, pk_sub (Nat.div_mul_le_self a d)]
  exact congrArg nI (by have := Nat.div_add_mod' a d; omega)
theorem pk_sub_toInt {a b : Nat} (ha : a < 2 ^ 30) (hb : b < 2 ^ 30) : (nI a - nI b).toInt = (a : Int) - b := by
  rw [Int32.toInt_sub, nI_toInt (by omega), nI_toInt (by omega)]
  exact Int.bmod_eq_of_le (by omega) (by omega)
theorem pk_sneg {a b : Nat} (hb : b < 2 ^ 30) (h : a < b) : nI a - nI b < 0 := by
  rw [Int32.lt_iff_toInt_lt, pk_sub_toInt (by omega) hb, show (0 : Int32).toInt = 0 from by decide]
  omega
theorem pk_ix (x : Int32) {n : Nat} (hn : n < 2 ^ 31) : x < 0 ∨ nI n ≤ x ∨ ∃ j : Nat, j < n ∧ x = nI j := by
  by_cases h : x < 0
  · exact Or.inl h
  · obtain ⟨j, hj, rfl⟩ := nI_of h
    by_cases h2 : j < n
    · exact Or.inr (Or.inr ⟨j, h2, rfl⟩)
    · exact Or.inr (Or.inl (nI_le (by omega) hj))
theorem pk_le {x y : Int32} {A B : Prop} (a b : Nat) (f : a ≤ b → A) (g : b < a → B) (hx : x = nI a := by rfl) (hy : y = nI b := by rfl) (ha : a < 2 ^ 31 := by omega) (hb : b < 2 ^ 31 := by omega) : (x ≤ y → A) ∧ (¬ x ≤ y → B) := by
  subst hx hy
  rw [nI_leI ha hb]
  exact ⟨f, fun z => g (by omega)⟩
theorem pk_lt {x y : Int32} {A B : Prop} (a b : Nat) (f : a < b → A) (g : b ≤ a → B) (hx : x = nI a := by rfl) (hy : y = nI b := by rfl) (ha : a < 2 ^ 31 := by omega) (hb : b < 2 ^ 31 := by omega) : (x < y → A) ∧ (¬ x < y → B) := by
  subst hx hy
  rw [nI_ltI ha hb]
  exact ⟨f, fun z => g (by omega)⟩
theorem pk_eq {x y : Int32} {A B : Prop} (a b : Nat) (f : a = b → A) (g : a ≠ b → B) (hx : x = nI a := by rfl) (hy : y = nI b := by rfl) (ha : a < 2 ^ 31 := by omega) (hb : b < 2 ^ 31 := by omega) : (x = y → A) ∧ (¬ x = y → B) := by
  subst hx hy
  rw [nI_eq ha hb]
  exact ⟨f, g⟩
theorem pk_in {x : Int32} (n N : Nat) (h : n < N) (hx : x = nI n := by rfl) (hN : N < 2 ^ 31 := by omega) : vp_in x N := by
  subst hx
  exact vp_in_nI h hN
theorem pk_cl {x : Int32} (n : Nat) (hx : x = nI n := by rfl) (h : n < 2 ^ 31 := by omega) : x.toNatClampNeg = n := by
  subst hx
  exact nI_clamp h
end
section
/-! formulas as token lists t 0 .. t (n-1), operands ahead of their operator: the length of the subformula that ends at i, recursion over it, its box -/
def fo_L (t : Nat → Nat) : Nat → Nat
  | 0 => 1
  | i + 1 => if t (i + 1) < 10 then 1 else 1 + fo_L t i + fo_L t (i - fo_L t i)
termination_by i => i
decreasing_by all_goals omega
def fo_rec {α : Type} (t : Nat → Nat) (d : Nat → α) (g : Nat → α → α → α) : Nat → α
  | 0 => d 0
  | i + 1 => if t (i + 1) < 10 then d (i + 1) else g (i + 1) (fo_rec t d g (i - fo_L t i)) (fo_rec t d g i)
termination_by i => i
decreasing_by all_goals omega
def fo_f (t : Nat → Nat) (i : Nat) : Nat := i - 1 - fo_L t (i - 1)
def fo_WF (t : Nat → Nat) (n : Nat) : Prop := ∀ i, i < n → t i ≤ 14 ∧ (10 ≤ t i → fo_L t (i - 1) < i)
theorem fo_L_pos (t : Nat → Nat) (i : Nat) : 1 ≤ fo_L t i := by
  cases i with
  | zero => rw [fo_L]; omega
  | succ i =>
    rw [fo_L]
    by_cases h : t (i + 1) < 10
    · rw [if_pos h]; omega
    · rw [if_neg h]; omega
theorem fo_L_d {t : Nat → Nat} {i : Nat} (h : t i < 10) : fo_L t i = 1 := by
  cases i with
  | zero => rw [fo_L]
  | succ i => rw [fo_L, if_pos h]
theorem fo_L_o {t : Nat → Nat} {i : Nat} (h : 10 ≤ t i) (h0 : 0 < i) : fo_L t i = 1 + fo_L t (i - 1) + fo_L t (fo_f t i) := by
  cases i with
  | zero => omega
  | succ i => rw [fo_L, if_neg (by omega)]; rfl
theorem fo_rec_d {α : Type} {t : Nat → Nat} {d : Nat → α} {g : Nat → α → α → α} {i : Nat} (h : t i < 10) : fo_rec t d g i = d i := by
  cases i with
  | zero => rw [fo_rec]
  | succ i => rw [fo_rec, if_pos h]
theorem fo_rec_o {α : Type} {t : Nat → Nat} {d : Nat → α} {g : Nat → α → α → α} {i : Nat} (h : 10 ≤ t i) (h0 : 0 < i) : fo_rec t d g i = g i (fo_rec t d g (fo_f t i)) (fo_rec t d g (i - 1)) := by
  cases i with
  | zero => omega
  | succ i => rw [fo_rec, if_neg (by omega)]; rfl
/-- an operator's operands -/
theorem fo_op {t : Nat → Nat} {n i : Nat} (wf : fo_WF t n) (hi : i < n) (h : 10 ≤ t i) : 0 < i ∧ fo_f t i + fo_L t (i - 1) + 1 = i ∧ fo_L t i = 1 + fo_L t (i - 1) + fo_L t (fo_f t i) := by
  have a := (wf i hi).2 h
  have p := fo_L_pos t (i - 1)
  refine ⟨by omega, by unfold fo_f; omega, fo_L_o h (by omega)⟩
theorem fo_ind {t : Nat → Nat} {n : Nat} (wf : fo_WF t n) {P : Nat → Prop} (hd : ∀ i, i < n → t i < 10 → P i)
    (ho : ∀ i, i < n → 10 ≤ t i → t i ≤ 14 → 0 < i → fo_f t i + fo_L t (i - 1) + 1 = i → fo_L t i = 1 + fo_L t (i - 1) + fo_L t (fo_f t i) → P (fo_f t i) → P (i - 1) → P i) : ∀ i, i < n → P i := by
  intro i
  induction i using Nat.strongRecOn with
  | ind i ih =>
    intro hi
    by_cases h : t i < 10
    · exact hd i hi h
    · obtain ⟨a, b, c⟩ := fo_op wf hi (by omega)
      have p := fo_L_pos t (i - 1)
      exact ho i hi (by omega) (wf i hi).1 a b c (ih _ (by omega) (by omega)) (ih _ (by omega) (by omega))
theorem fo_L_le {t : Nat → Nat} {n : Nat} (wf : fo_WF t n) : ∀ i, i < n → fo_L t i ≤ i + 1 := by
  refine fo_ind wf ?_ ?_
  · intro i hi h; rw [fo_L_d h]; omega
  · intro i hi h1 h2 h3 h4 h5 a b; omega
/-- the range of an inner subformula lies within -/
theorem fo_nest {t : Nat → Nat} {n : Nat} (wf : fo_WF t n) : ∀ i, i < n → ∀ j, j ≤ i → i < j + fo_L t i → i + fo_L t j ≤ j + fo_L t i := by
  refine fo_ind wf ?_ ?_
  · intro i hi h j h1 h2
    rw [fo_L_d h] at h2
    have e : j = i := by omega
    rw [e]; exact Nat.le_refl _
  · intro i hi h1 h2 h3 h4 h5 a b j j1 j2
    by_cases e : j = i
    · rw [e]; exact Nat.le_refl _
    · by_cases q : fo_f t i < j
      · have := b j (by omega) (by omega)
        omega
      · have := a j (by omega) (by omega)
        omega
def fo_opn (t : Nat → Nat) : Nat → Nat
  | 0 => 0
  | n + 1 => if t n < 10 then fo_opn t n + 1 else fo_opn t n - 1
theorem fo_opn_L {t : Nat → Nat} {n : Nat} (wf : fo_WF t n) : ∀ i, i < n → fo_opn t (i + 1) = fo_opn t (i + 1 - fo_L t i) + 1 := by
  refine fo_ind wf ?_ ?_
  · intro i hi h
    rw [fo_L_d h, fo_opn, if_pos h]; rfl
  · intro i hi h1 h2 h3 h4 h5 a b
    rw [fo_opn, if_neg (by omega)]
    have e1 : i - 1 + 1 = i := by omega
    rw [e1] at b
    have e2 : i - fo_L t (i - 1) = fo_f t i + 1 := by omega
    have e3 : i + 1 - fo_L t i = fo_f t i + 1 - fo_L t (fo_f t i) := by omega
    rw [b, e2, a, e3]; rfl
theorem fo_WF_le {t : Nat → Nat} {n m : Nat} (wf : fo_WF t n) (h : m ≤ n) : fo_WF t m := fun i hi => wf i (by omega)
theorem fo_opn_pos {t : Nat → Nat} {n : Nat} (wf : fo_WF t n) (h : 0 < n) : 1 ≤ fo_opn t n := by
  have a := fo_opn_L wf (n - 1) (by omega)
  rw [show n - 1 + 1 = n by omega] at a
  omega
theorem fo_opn_two {t : Nat → Nat} {n : Nat} (wf : fo_WF t n) (h : 2 ≤ fo_opn t n) : fo_L t (n - 1) < n := by
  have h0 : 0 < n := by
    cases n with
    | zero => rw [fo_opn] at h; omega
    | succ n => omega
  have a := fo_opn_L wf (n - 1) (by omega)
  rw [show n - 1 + 1 = n by omega] at a
  have b := fo_L_le wf (n - 1) (by omega)
  by_cases e : n - fo_L t (n - 1) = 0
  · rw [e, fo_opn] at a; omega
  · omega
theorem fo_opn_one {t : Nat → Nat} {n : Nat} (wf : fo_WF t n) (h : fo_opn t n = 1) : 0 < n ∧ fo_L t (n - 1) = n := by
  have h0 : 0 < n := by
    cases n with
    | zero => rw [fo_opn] at h; omega
    | succ n => omega
  have a := fo_opn_L wf (n - 1) (by omega)
  rw [show n - 1 + 1 = n by omega] at a
  have b := fo_L_le wf (n - 1) (by omega)
  have c := fo_L_pos t (n - 1)
  by_cases e : n - fo_L t (n - 1) = 0
  · exact ⟨h0, by omega⟩
  · have := fo_opn_pos (fo_WF_le wf (m := n - fo_L t (n - 1)) (by omega)) (by omega)
    omega
/-- an operator has two subformulas waiting ahead of it -/
theorem fo_opn_op {t : Nat → Nat} {n i : Nat} (wf : fo_WF t n) (hi : i < n) (h : 10 ≤ t i) : 2 ≤ fo_opn t i := by
  obtain ⟨a, b, c⟩ := fo_op wf hi h
  have d := fo_opn_L wf (i - 1) (by omega)
  rw [show i - 1 + 1 = i by omega] at d
  have e := fo_opn_pos (fo_WF_le wf (m := i - fo_L t (i - 1)) (by omega)) (by omega)
  omega
theorem fo_opn_le (t : Nat → Nat) : ∀ n, fo_opn t n ≤ n := by
  intro n
  induction n with
  | zero => exact Nat.le_refl _
  | succ n ih =>
    rw [fo_opn]
    by_cases h : t n < 10
    · rw [if_pos h]; omega
    · rw [if_neg h]; omega
theorem fo_WF_0 (t : Nat → Nat) : fo_WF t 0 := fun i hi => absurd hi (by omega)
theorem fo_WF_s {t : Nat → Nat} {n : Nat} (wf : fo_WF t n) (h : t n ≤ 14) (h2 : 10 ≤ t n → fo_L t (n - 1) < n) : fo_WF t (n + 1) := by
  intro i hi
  by_cases e : i = n
  · rw [e]; exact ⟨h, h2⟩
  · exact wf i (by omega)
/-- what depends on the tokens below alone -/
theorem fo_L_ext {t t' : Nat → Nat} {n : Nat} (h : ∀ j, j < n → (t j < 10 ↔ t' j < 10)) : ∀ i, i < n → fo_L t i = fo_L t' i := by
  intro i
  induction i using Nat.strongRecOn with
  | ind i ih =>
    intro hi
    by_cases d : t i < 10
    · rw [fo_L_d d, fo_L_d ((h i hi).mp d)]
    · have d' : ¬ t' i < 10 := fun z => d ((h i hi).mpr z)
      by_cases h0 : i = 0
      · rw [h0, fo_L, fo_L]
      · rw [fo_L_o (t := t) (i := i) (by omega) (by omega), fo_L_o (t := t') (i := i) (by omega) (by omega)]
        have e1 := ih (i - 1) (by omega) (by omega)
        have e2 : fo_f t i = fo_f t' i := by unfold fo_f; rw [e1]
        have e3 := ih (fo_f t i) (by unfold fo_f; omega) (by unfold fo_f; omega)
        rw [e1, e3, e2]
end
section
/-! brackets, sizes of the boxes, places of the operands in the box -/
def fo_pad (op own sec : Nat) : Nat :=
  if op = 10 ∨ op = 11 then (if sec = 1 ∧ (own = 10 ∨ own = 11) then 1 else 0)
  else if op = 12 then (if (own = 10 ∨ own = 11) ∨ (sec = 1 ∧ own = 12) then 1 else 0)
  else if op = 14 then (if sec = 0 ∧ 10 ≤ own then 1 else 0)
  else 0
theorem fo_pad_le (op own sec : Nat) : fo_pad op own sec ≤ 1 := by
  unfold fo_pad
  by_cases h1 : op = 10 ∨ op = 11
  · rw [if_pos h1]; by_cases h : sec = 1 ∧ (own = 10 ∨ own = 11)
    · rw [if_pos h]; omega
    · rw [if_neg h]; omega
  · rw [if_neg h1]
    by_cases h2 : op = 12
    · rw [if_pos h2]; by_cases h : (own = 10 ∨ own = 11) ∨ (sec = 1 ∧ own = 12)
      · rw [if_pos h]; omega
      · rw [if_neg h]; omega
    · rw [if_neg h2]
      by_cases h3 : op = 14
      · rw [if_pos h3]; by_cases h : sec = 0 ∧ 10 ≤ own
        · rw [if_pos h]; omega
        · rw [if_neg h]; omega
      · rw [if_neg h3]; omega
def fo_pA (t : Nat → Nat) (i : Nat) : Nat := fo_pad (t i) (t (fo_f t i)) 0
def fo_pB (t : Nat → Nat) (i : Nat) : Nat := fo_pad (t i) (t (i - 1)) 1
/-- width, height, baseline -/
def fo_D (t : Nat → Nat) : Nat → Nat × Nat × Nat :=
  fo_rec t (fun _ => (1, 1, 0)) (fun i a b =>
    if t i = 13 then (max (a.1 + 2 * fo_pA t i) (b.1 + 2 * fo_pB t i) + 2, a.2.1 + 1 + b.2.1, a.2.1)
    else if t i = 14 then ((a.1 + 2 * fo_pA t i) + (b.1 + 2 * fo_pB t i), b.2.1 + a.2.1, b.2.1 + a.2.2)
    else ((a.1 + 2 * fo_pA t i) + 1 + (b.1 + 2 * fo_pB t i), max a.2.2 b.2.2 + 1 + max (a.2.1 - 1 - a.2.2) (b.2.1 - 1 - b.2.2), max a.2.2 b.2.2))
def fo_W (t : Nat → Nat) (i : Nat) : Nat := (fo_D t i).1
def fo_H (t : Nat → Nat) (i : Nat) : Nat := (fo_D t i).2.1
def fo_B (t : Nat → Nat) (i : Nat) : Nat := (fo_D t i).2.2
theorem fo_D_d {t : Nat → Nat} {i : Nat} (h : t i < 10) : fo_W t i = 1 ∧ fo_H t i = 1 ∧ fo_B t i = 0 := by
  unfold fo_W fo_H fo_B fo_D
  rw [fo_rec_d h]
  exact ⟨rfl, rfl, rfl⟩
theorem fo_pad13 (a b : Nat) : fo_pad 13 a b = 0 := by unfold fo_pad; simp
theorem fo_pad14B (a : Nat) : fo_pad 14 a 1 = 0 := by unfold fo_pad; simp
theorem fo_D_13 {t : Nat → Nat} {i : Nat} (h : t i = 13) (h0 : 0 < i) : fo_pA t i = 0 ∧ fo_pB t i = 0 ∧ fo_W t i = max (fo_W t (fo_f t i)) (fo_W t (i - 1)) + 2 ∧ fo_H t i = fo_H t (fo_f t i) + 1 + fo_H t (i - 1) ∧ fo_B t i = fo_H t (fo_f t i) := by
  have a : fo_pA t i = 0 := by unfold fo_pA; rw [h, fo_pad13]
  have b : fo_pB t i = 0 := by unfold fo_pB; rw [h, fo_pad13]
  refine ⟨a, b, ?_⟩
  unfold fo_W fo_H fo_B
  have e : fo_D t i = (max ((fo_D t (fo_f t i)).1 + 2 * fo_pA t i) ((fo_D t (i - 1)).1 + 2 * fo_pB t i) + 2, (fo_D t (fo_f t i)).2.1 + 1 + (fo_D t (i - 1)).2.1, (fo_D t (fo_f t i)).2.1) := by
    unfold fo_D
    rw [fo_rec_o (by omega) h0, if_pos h]
  rw [e, a, b]
  exact ⟨rfl, rfl, rfl⟩
theorem fo_D_14 {t : Nat → Nat} {i : Nat} (h : t i = 14) (h0 : 0 < i) : fo_pB t i = 0 ∧ fo_W t i = fo_W t (fo_f t i) + 2 * fo_pA t i + fo_W t (i - 1) ∧ fo_H t i = fo_H t (i - 1) + fo_H t (fo_f t i) ∧ fo_B t i = fo_H t (i - 1) + fo_B t (fo_f t i) := by
  have b : fo_pB t i = 0 := by unfold fo_pB; rw [h, fo_pad14B]
  refine ⟨b, ?_⟩
  unfold fo_W fo_H fo_B
  have e : fo_D t i = (((fo_D t (fo_f t i)).1 + 2 * fo_pA t i) + ((fo_D t (i - 1)).1 + 2 * fo_pB t i), (fo_D t (i - 1)).2.1 + (fo_D t (fo_f t i)).2.1, (fo_D t (i - 1)).2.1 + (fo_D t (fo_f t i)).2.2) := by
    unfold fo_D
    rw [fo_rec_o (by omega) h0, if_neg (by omega), if_pos h]
  rw [e, b]
  exact ⟨rfl, rfl, rfl⟩
theorem fo_D_c {t : Nat → Nat} {i : Nat} (h : 10 ≤ t i) (h2 : t i ≤ 12) (h0 : 0 < i) : fo_W t i = fo_W t (fo_f t i) + 2 * fo_pA t i + 1 + (fo_W t (i - 1) + 2 * fo_pB t i) ∧ fo_H t i = max (fo_B t (fo_f t i)) (fo_B t (i - 1)) + 1 + max (fo_H t (fo_f t i) - 1 - fo_B t (fo_f t i)) (fo_H t (i - 1) - 1 - fo_B t (i - 1)) ∧ fo_B t i = max (fo_B t (fo_f t i)) (fo_B t (i - 1)) := by
  unfold fo_W fo_H fo_B
  have e : fo_D t i = (((fo_D t (fo_f t i)).1 + 2 * fo_pA t i) + 1 + ((fo_D t (i - 1)).1 + 2 * fo_pB t i), max (fo_D t (fo_f t i)).2.2 (fo_D t (i - 1)).2.2 + 1 + max ((fo_D t (fo_f t i)).2.1 - 1 - (fo_D t (fo_f t i)).2.2) ((fo_D t (i - 1)).2.1 - 1 - (fo_D t (i - 1)).2.2), max (fo_D t (fo_f t i)).2.2 (fo_D t (i - 1)).2.2) := by
    unfold fo_D
    rw [fo_rec_o (by omega) h0, if_neg (by omega), if_neg (by omega)]
  rw [e]
  exact ⟨rfl, rfl, rfl⟩
theorem fo_pA_le (t : Nat → Nat) (i : Nat) : fo_pA t i ≤ 1 := fo_pad_le _ _ _
theorem fo_pB_le (t : Nat → Nat) (i : Nat) : fo_pB t i ≤ 1 := fo_pad_le _ _ _
/-- the sizes are small -/
theorem fo_sz {t : Nat → Nat} {n : Nat} (wf : fo_WF t n) : ∀ i, i < n → 1 ≤ fo_W t i ∧ fo_W t i + 4 ≤ 5 * fo_L t i ∧ fo_B t i < fo_H t i ∧ fo_H t i ≤ fo_L t i := by
  refine fo_ind wf ?_ ?_
  · intro i hi h
    obtain ⟨a, b, c⟩ := fo_D_d h
    rw [a, b, c, fo_L_d h]; omega
  · intro i hi h1 h2 h3 h4 h5 a b
    have pa := fo_pA_le t i
    have pb := fo_pB_le t i
    by_cases c1 : t i = 13
    · obtain ⟨q1, q2, q3, q4, q5⟩ := fo_D_13 c1 h3
      rw [q3, q4, q5, h5]; omega
    · by_cases c2 : t i = 14
      · obtain ⟨q2, q3, q4, q5⟩ := fo_D_14 c2 h3
        rw [q3, q4, q5, h5]; omega
      · obtain ⟨q3, q4, q5⟩ := fo_D_c h1 (by omega) h3
        rw [q3, q4, q5, h5]; omega
def fo_fy (t : Nat → Nat) (i : Nat) : Nat := if t i = 13 then 0 else if t i = 14 then fo_H t (i - 1) else fo_B t i - fo_B t (fo_f t i)
def fo_fx (t : Nat → Nat) (i : Nat) : Nat := if t i = 13 then (fo_W t i - fo_W t (fo_f t i)) / 2 else fo_pA t i
def fo_sy (t : Nat → Nat) (i : Nat) : Nat := if t i = 13 then fo_H t (fo_f t i) + 1 else if t i = 14 then 0 else fo_B t i - fo_B t (i - 1)
def fo_sx (t : Nat → Nat) (i : Nat) : Nat := if t i = 13 then (fo_W t i - fo_W t (i - 1)) / 2 else if t i = 14 then fo_W t (fo_f t i) + 2 * fo_pA t i else fo_W t (fo_f t i) + 2 * fo_pA t i + 1 + fo_pB t i
theorem fo_g13 {t : Nat → Nat} {i : Nat} (h : t i = 13) : fo_fy t i = 0 ∧ fo_fx t i = (fo_W t i - fo_W t (fo_f t i)) / 2 ∧ fo_sy t i = fo_H t (fo_f t i) + 1 ∧ fo_sx t i = (fo_W t i - fo_W t (i - 1)) / 2 := by
  unfold fo_fy fo_fx fo_sy fo_sx
  rw [if_pos h, if_pos h, if_pos h, if_pos h]
  exact ⟨rfl, rfl, rfl, rfl⟩
theorem fo_g14 {t : Nat → Nat} {i : Nat} (h : t i = 14) : fo_fy t i = fo_H t (i - 1) ∧ fo_fx t i = fo_pA t i ∧ fo_sy t i = 0 ∧ fo_sx t i = fo_W t (fo_f t i) + 2 * fo_pA t i := by
  have h' : ¬ t i = 13 := by omega
  unfold fo_fy fo_fx fo_sy fo_sx
  rw [if_neg h', if_neg h', if_neg h', if_neg h', if_pos h, if_pos h, if_pos h]
  exact ⟨rfl, rfl, rfl, rfl⟩
theorem fo_gc {t : Nat → Nat} {i : Nat} (h : t i ≤ 12) : fo_fy t i = fo_B t i - fo_B t (fo_f t i) ∧ fo_fx t i = fo_pA t i ∧ fo_sy t i = fo_B t i - fo_B t (i - 1) ∧ fo_sx t i = fo_W t (fo_f t i) + 2 * fo_pA t i + 1 + fo_pB t i := by
  have h' : ¬ t i = 13 := by omega
  have h2 : ¬ t i = 14 := by omega
  unfold fo_fy fo_fx fo_sy fo_sx
  rw [if_neg h', if_neg h', if_neg h', if_neg h', if_neg h2, if_neg h2, if_neg h2]
  exact ⟨rfl, rfl, rfl, rfl⟩
/-- the operands' boxes lie within, apart, and are smaller -/
theorem fo_geo {t : Nat → Nat} {n i : Nat} (wf : fo_WF t n) (hi : i < n) (h : 10 ≤ t i) :
    fo_fy t i + fo_H t (fo_f t i) ≤ fo_H t i ∧ fo_fx t i + fo_W t (fo_f t i) + fo_pA t i ≤ fo_W t i ∧ fo_pA t i ≤ fo_fx t i
    ∧ fo_sy t i + fo_H t (i - 1) ≤ fo_H t i ∧ fo_sx t i + fo_W t (i - 1) + fo_pB t i ≤ fo_W t i ∧ fo_pB t i ≤ fo_sx t i
    ∧ fo_W t (fo_f t i) < fo_W t i ∧ fo_W t (i - 1) < fo_W t i
    ∧ (fo_fy t i + fo_H t (fo_f t i) ≤ fo_sy t i ∨ fo_fx t i + fo_W t (fo_f t i) ≤ fo_sx t i) := by
  obtain ⟨h0, h4, h5⟩ := fo_op wf hi h
  have a := fo_sz wf (fo_f t i) (by omega)
  have b := fo_sz wf (i - 1) (by omega)
  have pa := fo_pA_le t i
  have pb := fo_pB_le t i
  have h14 := (wf i hi).1
  by_cases c1 : t i = 13
  · obtain ⟨q1, q2, q3, q4, q5⟩ := fo_D_13 c1 h0
    obtain ⟨g1, g2, g3, g4⟩ := fo_g13 c1
    rw [g1, g2, g3, g4, q1, q2, q4]; omega
  · by_cases c2 : t i = 14
    · obtain ⟨q2, q3, q4, q5⟩ := fo_D_14 c2 h0
      obtain ⟨g1, g2, g3, g4⟩ := fo_g14 c2
      rw [g1, g2, g3, g4, q2, q3, q4]; omega
    · obtain ⟨q3, q4, q5⟩ := fo_D_c h (by omega) h0
      obtain ⟨g1, g2, g3, g4⟩ := fo_gc (t := t) (i := i) (by omega)
      rw [g1, g2, g3, g4, q3, q4, q5]; omega
end
section
/-! the picture of a subformula, in coordinates of its own box -/
abbrev fo_in (y x h w r c : Nat) : Prop := y ≤ r ∧ r < y + h ∧ x ≤ c ∧ c < x + w
def fo_sg (k : Nat) : Nat := if k = 10 then 43 else if k = 11 then 45 else 42
def fo_own (t : Nat → Nat) (i r c : Nat) : Nat :=
  if t i = 13 then (if r = fo_H t (fo_f t i) then 95 else 32)
  else if t i ≠ 14 ∧ r = fo_B t i ∧ c + fo_pB t i + 1 = fo_sx t i then fo_sg (t i)
  else if fo_pA t i = 1 ∧ fo_fy t i ≤ r ∧ r < fo_fy t i + fo_H t (fo_f t i) ∧ c + 1 = fo_fx t i then 40
  else if fo_pA t i = 1 ∧ fo_fy t i ≤ r ∧ r < fo_fy t i + fo_H t (fo_f t i) ∧ c = fo_fx t i + fo_W t (fo_f t i) then 41
  else if fo_pB t i = 1 ∧ fo_sy t i ≤ r ∧ r < fo_sy t i + fo_H t (i - 1) ∧ c + 1 = fo_sx t i then 40
  else if fo_pB t i = 1 ∧ fo_sy t i ≤ r ∧ r < fo_sy t i + fo_H t (i - 1) ∧ c = fo_sx t i + fo_W t (i - 1) then 41
  else 32
def fo_pic (t : Nat → Nat) : Nat → Nat → Nat → Nat :=
  fo_rec t (fun i _ _ => 48 + t i) (fun i a b r c =>
    if fo_in (fo_fy t i) (fo_fx t i) (fo_H t (fo_f t i)) (fo_W t (fo_f t i)) r c then a (r - fo_fy t i) (c - fo_fx t i)
    else if fo_in (fo_sy t i) (fo_sx t i) (fo_H t (i - 1)) (fo_W t (i - 1)) r c then b (r - fo_sy t i) (c - fo_sx t i)
    else fo_own t i r c)
theorem fo_pic_d {t : Nat → Nat} {i : Nat} (h : t i < 10) (r c : Nat) : fo_pic t i r c = 48 + t i := by
  unfold fo_pic; rw [fo_rec_d h]
theorem fo_pic_o {t : Nat → Nat} {i : Nat} (h : 10 ≤ t i) (h0 : 0 < i) (r c : Nat) : fo_pic t i r c =
    if fo_in (fo_fy t i) (fo_fx t i) (fo_H t (fo_f t i)) (fo_W t (fo_f t i)) r c then fo_pic t (fo_f t i) (r - fo_fy t i) (c - fo_fx t i)
    else if fo_in (fo_sy t i) (fo_sx t i) (fo_H t (i - 1)) (fo_W t (i - 1)) r c then fo_pic t (i - 1) (r - fo_sy t i) (c - fo_sx t i)
    else fo_own t i r c := by
  unfold fo_pic; rw [fo_rec_o h h0]
/-- with or without brackets -/
def fo_bp (t : Nat → Nat) (i p r c : Nat) : Nat := if p = 0 then fo_pic t i r c else if c = 0 then 40 else if c = fo_W t i + 1 then 41 else fo_pic t i r (c - 1)
theorem fo_bp0 (t : Nat → Nat) (i r c : Nat) : fo_bp t i 0 r c = fo_pic t i r c := by unfold fo_bp; rw [if_pos rfl]
theorem fo_bp1l (t : Nat → Nat) (i r : Nat) : fo_bp t i 1 r 0 = 40 := by unfold fo_bp; rw [if_neg (by omega), if_pos rfl]
theorem fo_bp1r (t : Nat → Nat) (i r : Nat) : fo_bp t i 1 r (fo_W t i + 1) = 41 := by unfold fo_bp; rw [if_neg (by omega), if_neg (by omega), if_pos rfl]
theorem fo_bp1m (t : Nat → Nat) (i r : Nat) {c : Nat} (h : c < fo_W t i) : fo_bp t i 1 r (c + 1) = fo_pic t i r c := by unfold fo_bp; rw [if_neg (by omega), if_neg (by omega), if_neg (by omega)]; rfl
/-- the views of an operator's picture -/
theorem fo_vA {t : Nat → Nat} {n i : Nat} (wf : fo_WF t n) (hi : i < n) (h : 10 ≤ t i) (h12 : t i ≤ 12) {r c : Nat} (hc : c < fo_W t (fo_f t i) + 2 * fo_pA t i) :
    fo_pic t i r c = if fo_fy t i ≤ r ∧ r < fo_fy t i + fo_H t (fo_f t i) then fo_bp t (fo_f t i) (fo_pA t i) (r - fo_fy t i) c else 32 := by
  obtain ⟨h0, h4, h5⟩ := fo_op wf hi h
  obtain ⟨g1, g2, g3, g4⟩ := fo_gc (t := t) (i := i) h12
  have pa := fo_pA_le t i
  have pb := fo_pB_le t i
  rw [fo_pic_o h h0, if_neg (c := fo_in (fo_sy t i) _ _ _ _ _) (by omega)]
  unfold fo_own
  rw [if_neg (c := t i = 13) (by omega), if_neg (c := t i ≠ 14 ∧ _) (by omega), if_neg (c := fo_pB t i = 1 ∧ _ ∧ _ ∧ c + 1 = _) (by omega), if_neg (c := fo_pB t i = 1 ∧ _ ∧ _ ∧ c = _) (by omega)]
  by_cases hr : fo_fy t i ≤ r ∧ r < fo_fy t i + fo_H t (fo_f t i)
  · rw [if_pos (c := fo_fy t i ≤ r ∧ _) hr]
    by_cases p0 : fo_pA t i = 0
    · rw [if_pos (by omega), p0, fo_bp0, show fo_fx t i = 0 by omega]; rfl
    · have p1 : fo_pA t i = 1 := by omega
      rw [p1]
      by_cases k0 : c = 0
      · rw [if_neg (by omega), if_pos (by omega), k0, fo_bp1l]
      · by_cases k1 : c = fo_W t (fo_f t i) + 1
        · rw [if_neg (by omega), if_neg (by omega), if_pos (by omega), k1, fo_bp1r]
        · obtain ⟨d, rfl⟩ : ∃ d, c = d + 1 := ⟨c - 1, by omega⟩
          rw [if_pos (by omega), fo_bp1m t _ _ (by omega), show d + 1 - fo_fx t i = d by omega]
  · rw [if_neg (c := fo_fy t i ≤ r ∧ r < _) hr, if_neg (by omega), if_neg (by omega), if_neg (by omega)]
theorem fo_vS {t : Nat → Nat} {n i : Nat} (wf : fo_WF t n) (hi : i < n) (h : 10 ≤ t i) (h12 : t i ≤ 12) {r c : Nat} (hc : c = fo_W t (fo_f t i) + 2 * fo_pA t i) :
    fo_pic t i r c = if r = fo_B t i then fo_sg (t i) else 32 := by
  obtain ⟨h0, h4, h5⟩ := fo_op wf hi h
  obtain ⟨g1, g2, g3, g4⟩ := fo_gc (t := t) (i := i) h12
  have pa := fo_pA_le t i
  have pb := fo_pB_le t i
  rw [fo_pic_o h h0, if_neg (by omega), if_neg (by omega)]
  unfold fo_own
  rw [if_neg (c := t i = 13) (by omega)]
  by_cases hr : r = fo_B t i
  · rw [if_pos (by omega), if_pos hr]
  · rw [if_neg (by omega), if_neg (by omega), if_neg (by omega), if_neg (by omega), if_neg (by omega), if_neg hr]
theorem fo_vB {t : Nat → Nat} {n i : Nat} (wf : fo_WF t n) (hi : i < n) (h : 10 ≤ t i) (h12 : t i ≤ 12) {r c : Nat} (hc : c < fo_W t (i - 1) + 2 * fo_pB t i) :
    fo_pic t i r (fo_W t (fo_f t i) + 2 * fo_pA t i + 1 + c) = if fo_sy t i ≤ r ∧ r < fo_sy t i + fo_H t (i - 1) then fo_bp t (i - 1) (fo_pB t i) (r - fo_sy t i) c else 32 := by
  obtain ⟨h0, h4, h5⟩ := fo_op wf hi h
  obtain ⟨g1, g2, g3, g4⟩ := fo_gc (t := t) (i := i) h12
  have pa := fo_pA_le t i
  have pb := fo_pB_le t i
  rw [fo_pic_o h h0, if_neg (c := fo_in (fo_fy t i) _ _ _ _ _) (by omega)]
  unfold fo_own
  rw [if_neg (c := t i = 13) (by omega), if_neg (c := t i ≠ 14 ∧ _) (by omega), if_neg (c := fo_pA t i = 1 ∧ _ ∧ _ ∧ _ + 1 = _) (by omega), if_neg (c := fo_pA t i = 1 ∧ _ ∧ _ ∧ _ = _) (by omega)]
  by_cases hr : fo_sy t i ≤ r ∧ r < fo_sy t i + fo_H t (i - 1)
  · rw [if_pos (c := fo_sy t i ≤ r ∧ r < _) hr]
    by_cases p0 : fo_pB t i = 0
    · rw [if_pos (by omega), p0, fo_bp0]
      exact congrArg _ (by omega)
    · have p1 : fo_pB t i = 1 := by omega
      rw [p1]
      by_cases k0 : c = 0
      · rw [if_neg (by omega), if_pos (by omega), k0, fo_bp1l]
      · by_cases k1 : c = fo_W t (i - 1) + 1
        · rw [if_neg (by omega), if_neg (by omega), if_pos (by omega), k1, fo_bp1r]
        · obtain ⟨d, rfl⟩ : ∃ d, c = d + 1 := ⟨c - 1, by omega⟩
          rw [if_pos (by omega), fo_bp1m t _ _ (by omega)]
          exact congrArg _ (by omega)
  · rw [if_neg (c := fo_sy t i ≤ r ∧ r < _) hr, if_neg (by omega), if_neg (by omega), if_neg (by omega)]
theorem fo_vN {t : Nat → Nat} {n i : Nat} (wf : fo_WF t n) (hi : i < n) (h : t i = 13) {r c : Nat} (hr : r < fo_H t (fo_f t i)) :
    fo_pic t i r c = if fo_fx t i ≤ c ∧ c < fo_fx t i + fo_W t (fo_f t i) then fo_pic t (fo_f t i) r (c - fo_fx t i) else 32 := by
  obtain ⟨h0, h4, h5⟩ := fo_op wf hi (by omega)
  obtain ⟨g1, g2, g3, g4⟩ := fo_g13 h
  rw [fo_pic_o (by omega) h0, if_neg (c := fo_in (fo_sy t i) _ _ _ _ _) (by omega)]
  unfold fo_own
  rw [if_pos (c := t i = 13) h, if_neg (c := r = _) (by omega)]
  by_cases hc : fo_fx t i ≤ c ∧ c < fo_fx t i + fo_W t (fo_f t i)
  · rw [if_pos (by omega), if_pos hc, g1]; rfl
  · rw [if_neg (by omega), if_neg hc]
theorem fo_vR {t : Nat → Nat} {n i : Nat} (wf : fo_WF t n) (hi : i < n) (h : t i = 13) {r c : Nat} (hr : r = fo_H t (fo_f t i)) : fo_pic t i r c = 95 := by
  obtain ⟨h0, h4, h5⟩ := fo_op wf hi (by omega)
  obtain ⟨g1, g2, g3, g4⟩ := fo_g13 h
  rw [fo_pic_o (by omega) h0, if_neg (by omega), if_neg (by omega)]
  unfold fo_own
  rw [if_pos (c := t i = 13) h, if_pos hr]
theorem fo_vD {t : Nat → Nat} {n i : Nat} (wf : fo_WF t n) (hi : i < n) (h : t i = 13) {r c : Nat} (hr : r < fo_H t (i - 1)) :
    fo_pic t i (fo_H t (fo_f t i) + 1 + r) c = if fo_sx t i ≤ c ∧ c < fo_sx t i + fo_W t (i - 1) then fo_pic t (i - 1) r (c - fo_sx t i) else 32 := by
  obtain ⟨h0, h4, h5⟩ := fo_op wf hi (by omega)
  obtain ⟨g1, g2, g3, g4⟩ := fo_g13 h
  rw [fo_pic_o (by omega) h0, if_neg (c := fo_in (fo_fy t i) _ _ _ _ _) (by omega)]
  unfold fo_own
  rw [if_pos (c := t i = 13) h, if_neg (c := _ = fo_H t (fo_f t i)) (by omega)]
  by_cases hc : fo_sx t i ≤ c ∧ c < fo_sx t i + fo_W t (i - 1)
  · rw [if_pos (by omega), if_pos hc, show fo_H t (fo_f t i) + 1 + r - fo_sy t i = r by omega]
  · rw [if_neg (by omega), if_neg hc]
theorem fo_vE {t : Nat → Nat} {n i : Nat} (wf : fo_WF t n) (hi : i < n) (h : t i = 14) {r c : Nat} (hr : r < fo_H t (i - 1)) (hc : c < fo_W t i) :
    fo_pic t i r c = if fo_sx t i ≤ c then fo_pic t (i - 1) r (c - fo_sx t i) else 32 := by
  obtain ⟨h0, h4, h5⟩ := fo_op wf hi (by omega)
  obtain ⟨g1, g2, g3, g4⟩ := fo_g14 h
  obtain ⟨q2, q3, q4, q5⟩ := fo_D_14 h h0
  rw [fo_pic_o (by omega) h0, if_neg (c := fo_in (fo_fy t i) _ _ _ _ _) (by omega)]
  unfold fo_own
  rw [if_neg (c := t i = 13) (by omega), if_neg (c := t i ≠ 14 ∧ _) (by omega), if_neg (c := fo_pA t i = 1 ∧ _ ∧ _ ∧ _ + 1 = _) (by omega), if_neg (c := fo_pA t i = 1 ∧ _ ∧ _ ∧ _ = _) (by omega), if_neg (c := fo_pB t i = 1 ∧ _ ∧ _ ∧ _ + 1 = _) (by omega), if_neg (c := fo_pB t i = 1 ∧ _ ∧ _ ∧ _ = _) (by omega)]
  by_cases hx : fo_sx t i ≤ c
  · rw [if_pos (by omega), if_pos hx, g3]; rfl
  · rw [if_neg (by omega), if_neg hx]
theorem fo_vP {t : Nat → Nat} {n i : Nat} (wf : fo_WF t n) (hi : i < n) (h : t i = 14) {r c : Nat} (hr : r < fo_H t (fo_f t i)) :
    fo_pic t i (fo_H t (i - 1) + r) c = if c < fo_W t (fo_f t i) + 2 * fo_pA t i then fo_bp t (fo_f t i) (fo_pA t i) r c else 32 := by
  obtain ⟨h0, h4, h5⟩ := fo_op wf hi (by omega)
  obtain ⟨g1, g2, g3, g4⟩ := fo_g14 h
  obtain ⟨q2, q3, q4, q5⟩ := fo_D_14 h h0
  have pa := fo_pA_le t i
  rw [fo_pic_o (by omega) h0, if_neg (c := fo_in (fo_sy t i) _ _ _ _ _) (by omega)]
  unfold fo_own
  rw [if_neg (c := t i = 13) (by omega), if_neg (c := t i ≠ 14 ∧ _) (by omega), if_neg (c := fo_pB t i = 1 ∧ _ ∧ _ ∧ c + 1 = _) (by omega), if_neg (c := fo_pB t i = 1 ∧ _ ∧ _ ∧ c = _) (by omega)]
  by_cases hc : c < fo_W t (fo_f t i) + 2 * fo_pA t i
  · rw [if_pos hc]
    by_cases p0 : fo_pA t i = 0
    · rw [if_pos (by omega), p0, fo_bp0, show fo_fx t i = 0 by omega, show fo_H t (i - 1) + r - fo_fy t i = r by omega]; rfl
    · have p1 : fo_pA t i = 1 := by omega
      rw [p1]
      by_cases k0 : c = 0
      · rw [if_neg (by omega), if_pos (by omega), k0, fo_bp1l]
      · by_cases k1 : c = fo_W t (fo_f t i) + 1
        · rw [if_neg (by omega), if_neg (by omega), if_pos (by omega), k1, fo_bp1r]
        · obtain ⟨d, rfl⟩ : ∃ d, c = d + 1 := ⟨c - 1, by omega⟩
          rw [if_pos (by omega), fo_bp1m t _ _ (by omega), show d + 1 - fo_fx t i = d by omega, show fo_H t (i - 1) + r - fo_fy t i = r by omega]
  · rw [if_neg hc, if_neg (by omega), if_neg (by omega), if_neg (by omega)]
end
section
/-! ink on every side of a box -/
def fo_Ink (g : Nat → Nat → Nat) (h w : Nat) : Prop :=
  (∃ c, c < w ∧ g 0 c ≠ 32) ∧ (∃ c, c < w ∧ g (h - 1) c ≠ 32) ∧ (∃ r, r < h ∧ g r 0 ≠ 32) ∧ (∃ r, r < h ∧ g r (w - 1) ≠ 32)
theorem fo_ink_bp {t : Nat → Nat} {i p : Nat} (hp : p ≤ 1) (h1 : 1 ≤ fo_H t i) (h : fo_Ink (fo_pic t i) (fo_H t i) (fo_W t i)) : fo_Ink (fo_bp t i p) (fo_H t i) (fo_W t i + 2 * p) := by
  by_cases p0 : p = 0
  · subst p0
    have e : fo_bp t i 0 = fo_pic t i := by funext r c; exact fo_bp0 t i r c
    rw [e]; exact h
  · have p1 : p = 1 := by omega
    subst p1
    refine ⟨⟨0, by omega, ?_⟩, ⟨0, by omega, ?_⟩, ⟨0, by omega, ?_⟩, ⟨0, by omega, ?_⟩⟩
    · rw [fo_bp1l]; decide
    · rw [fo_bp1l]; decide
    · rw [fo_bp1l]; decide
    · rw [show fo_W t i + 2 * 1 - 1 = fo_W t i + 1 by omega, fo_bp1r]; decide
/-- one operand reaches the top, one the bottom -/
theorem fo_tb {t : Nat → Nat} {n i : Nat} (wf : fo_WF t n) (hi : i < n) (h : 10 ≤ t i) (h12 : t i ≤ 12) : (fo_fy t i = 0 ∨ fo_sy t i = 0) ∧ (fo_fy t i + fo_H t (fo_f t i) = fo_H t i ∨ fo_sy t i + fo_H t (i - 1) = fo_H t i) := by
  obtain ⟨h0, h4, h5⟩ := fo_op wf hi h
  have za := (fo_sz wf (fo_f t i) (by omega)).2.2.1
  have zb := (fo_sz wf (i - 1) (by omega)).2.2.1
  obtain ⟨q3, q4, q5⟩ := fo_D_c h h12 h0
  obtain ⟨g1, g2, g3, g4⟩ := fo_gc (t := t) (i := i) h12
  rw [g1, g3, q4, q5]
  clear q3 q4 q5 g1 g2 g3 g4 h4 h5
  omega
theorem fo_ink13 {t : Nat → Nat} {n i : Nat} (wf : fo_WF t n) (hi : i < n) (c1 : t i = 13) (a : fo_Ink (fo_pic t (fo_f t i)) (fo_H t (fo_f t i)) (fo_W t (fo_f t i))) (b : fo_Ink (fo_pic t (i - 1)) (fo_H t (i - 1)) (fo_W t (i - 1))) : fo_Ink (fo_pic t i) (fo_H t i) (fo_W t i) := by
  obtain ⟨h0, h4, h5⟩ := fo_op wf hi (by omega)
  obtain ⟨q1, q2, q3, q4, q5⟩ := fo_D_13 c1 h0
  obtain ⟨gA1, gA2, gA3, gB1, gB2, gB3, gw1, gw2, _⟩ := fo_geo wf hi (by omega)
  have zb := (fo_sz wf (i - 1) (by omega)).2.2.1
  have za := (fo_sz wf (fo_f t i) (by omega)).2.2.1
  clear h4 h5 q3
  obtain ⟨⟨ct, at1, at2⟩, _, _, _⟩ := a
  obtain ⟨_, ⟨cb, bt1, bt2⟩, _, _⟩ := b
  refine ⟨⟨fo_fx t i + ct, by omega, ?_⟩, ⟨fo_sx t i + cb, by omega, ?_⟩, ⟨fo_H t (fo_f t i), by omega, ?_⟩, ⟨fo_H t (fo_f t i), by omega, ?_⟩⟩
  · rw [fo_vN wf hi c1 (by omega), if_pos (by omega), show fo_fx t i + ct - fo_fx t i = ct by omega]; exact at2
  · rw [show fo_H t i - 1 = fo_H t (fo_f t i) + 1 + (fo_H t (i - 1) - 1) by omega, fo_vD wf hi c1 (by omega), if_pos (by omega), show fo_sx t i + cb - fo_sx t i = cb by omega]; exact bt2
  · rw [fo_vR wf hi c1 rfl]; decide
  · rw [fo_vR wf hi c1 rfl]; decide
theorem fo_ink14 {t : Nat → Nat} {n i : Nat} (wf : fo_WF t n) (hi : i < n) (c2 : t i = 14) (ia : fo_Ink (fo_bp t (fo_f t i) (fo_pA t i)) (fo_H t (fo_f t i)) (fo_W t (fo_f t i) + 2 * fo_pA t i)) (b : fo_Ink (fo_pic t (i - 1)) (fo_H t (i - 1)) (fo_W t (i - 1))) : fo_Ink (fo_pic t i) (fo_H t i) (fo_W t i) := by
  obtain ⟨h0, h4, h5⟩ := fo_op wf hi (by omega)
  obtain ⟨q2, q3, q4, q5⟩ := fo_D_14 c2 h0
  obtain ⟨g1, g2, g3, g4⟩ := fo_g14 c2
  have zb := (fo_sz wf (i - 1) (by omega)).2.2.1
  have za := (fo_sz wf (fo_f t i) (by omega)).2.2.1
  clear h4 h5 q5 q2
  obtain ⟨⟨ct, bt1, bt2⟩, _, _, ⟨rr, br1, br2⟩⟩ := b
  obtain ⟨_, ⟨cb, ab1, ab2⟩, ⟨rl, al1, al2⟩, _⟩ := ia
  refine ⟨⟨fo_sx t i + ct, by omega, ?_⟩, ⟨cb, by omega, ?_⟩, ⟨fo_H t (i - 1) + rl, by omega, ?_⟩, ⟨rr, by omega, ?_⟩⟩
  · rw [fo_vE wf hi c2 (by omega) (by omega), if_pos (by omega), show fo_sx t i + ct - fo_sx t i = ct by omega]; exact bt2
  · rw [show fo_H t i - 1 = fo_H t (i - 1) + (fo_H t (fo_f t i) - 1) by omega, fo_vP wf hi c2 (by omega), if_pos (by omega)]; exact ab2
  · rw [fo_vP wf hi c2 (by omega), if_pos (by omega)]; exact al2
  · rw [fo_vE wf hi c2 (by omega) (by omega), if_pos (by omega), show fo_W t i - 1 - fo_sx t i = fo_W t (i - 1) - 1 by omega]; exact br2
theorem fo_inkc {t : Nat → Nat} {n i : Nat} (wf : fo_WF t n) (hi : i < n) (h1 : 10 ≤ t i) (h12 : t i ≤ 12) (ia : fo_Ink (fo_bp t (fo_f t i) (fo_pA t i)) (fo_H t (fo_f t i)) (fo_W t (fo_f t i) + 2 * fo_pA t i)) (ib : fo_Ink (fo_bp t (i - 1) (fo_pB t i)) (fo_H t (i - 1)) (fo_W t (i - 1) + 2 * fo_pB t i)) : fo_Ink (fo_pic t i) (fo_H t i) (fo_W t i) := by
  obtain ⟨h0, h4, h5⟩ := fo_op wf hi h1
  obtain ⟨q3, _, _⟩ := fo_D_c h1 h12 h0
  obtain ⟨tb1, tb2⟩ := fo_tb wf hi h1 h12
  obtain ⟨gA1, _, _, gB1, _⟩ := fo_geo wf hi h1
  have za := (fo_sz wf (fo_f t i) (by omega)).2.2.1
  have zb := (fo_sz wf (i - 1) (by omega)).2.2.1
  clear h4 h5
  obtain ⟨⟨cat, at1, at2⟩, ⟨cab, ab1, ab2⟩, ⟨ral, al1, al2⟩, _⟩ := ia
  obtain ⟨⟨cbt, bt1, bt2⟩, ⟨cbb, bb1, bb2⟩, _, ⟨rbr, br1, br2⟩⟩ := ib
  refine ⟨?_, ?_, ?_, ?_⟩
  · clear tb2
    rcases tb1 with z | z
    · refine ⟨cat, by omega, ?_⟩
      rw [fo_vA wf hi h1 h12 at1, if_pos (by omega), z]; exact at2
    · refine ⟨fo_W t (fo_f t i) + 2 * fo_pA t i + 1 + cbt, by omega, ?_⟩
      rw [fo_vB wf hi h1 h12 bt1, if_pos (by omega), z]; exact bt2
  · clear tb1
    rcases tb2 with z | z
    · refine ⟨cab, by omega, ?_⟩
      rw [fo_vA wf hi h1 h12 ab1, if_pos (by omega), show fo_H t i - 1 - fo_fy t i = fo_H t (fo_f t i) - 1 by omega]; exact ab2
    · refine ⟨fo_W t (fo_f t i) + 2 * fo_pA t i + 1 + cbb, by omega, ?_⟩
      rw [fo_vB wf hi h1 h12 bb1, if_pos (by omega), show fo_H t i - 1 - fo_sy t i = fo_H t (i - 1) - 1 by omega]; exact bb2
  · clear tb1 tb2
    refine ⟨fo_fy t i + ral, by omega, ?_⟩
    rw [fo_vA wf hi h1 h12 (by omega), if_pos (by omega), show fo_fy t i + ral - fo_fy t i = ral by omega]; exact al2
  · clear tb1 tb2
    refine ⟨fo_sy t i + rbr, by omega, ?_⟩
    rw [show fo_W t i - 1 = fo_W t (fo_f t i) + 2 * fo_pA t i + 1 + (fo_W t (i - 1) + 2 * fo_pB t i - 1) by omega, fo_vB wf hi h1 h12 (by omega), if_pos (by omega), show fo_sy t i + rbr - fo_sy t i = rbr by omega]; exact br2
theorem fo_ink {t : Nat → Nat} {n : Nat} (wf : fo_WF t n) : ∀ i, i < n → fo_Ink (fo_pic t i) (fo_H t i) (fo_W t i) := by
  refine fo_ind wf ?_ ?_
  · intro i hi h
    obtain ⟨a, b, c⟩ := fo_D_d h
    rw [a, b]
    have e : ∀ r c, fo_pic t i r c ≠ 32 := by intro r c; rw [fo_pic_d h]; omega
    exact ⟨⟨0, by omega, e _ _⟩, ⟨0, by omega, e _ _⟩, ⟨0, by omega, e _ _⟩, ⟨0, by omega, e _ _⟩⟩
  · intro i hi h1 h2 h0 h4 h5 a b
    have za := (fo_sz wf (fo_f t i) (by omega)).2.2.1
    have zb := (fo_sz wf (i - 1) (by omega)).2.2.1
    have ia := fo_ink_bp (fo_pA_le t i) (by omega) a
    have ib := fo_ink_bp (fo_pB_le t i) (by omega) b
    by_cases c1 : t i = 13
    · exact fo_ink13 wf hi c1 a b
    · by_cases c2 : t i = 14
      · exact fo_ink14 wf hi c2 ia b
      · exact fo_inkc wf hi h1 (by omega) ia ib
end
section
/-! the baseline's row: brackets balance, the last sign outside is the operator's -/
def fo_pass (g : Nat → Nat) : Nat → Nat → Nat → Nat → Prop
  | 0, _, m, m' => m = m'
  | k + 1, c, m, m' => (g c = 40 → fo_pass g k (c + 1) (m + 1) m') ∧ (g c = 41 → 2 ≤ m ∧ fo_pass g k (c + 1) (m - 1) m') ∧ (g c ≠ 40 → g c ≠ 41 → fo_pass g k (c + 1) m m')
theorem fo_pass_add (g : Nat → Nat) : ∀ k k' c m m' m'', fo_pass g k c m m' → fo_pass g k' (c + k) m' m'' → fo_pass g (k + k') c m m'' := by
  intro k
  induction k with
  | zero =>
    intro k' c m m' m'' h h2
    have e : m = m' := h
    subst e
    rw [Nat.zero_add]; exact h2
  | succ k ih =>
    intro k' c m m' m'' h h2
    rw [show c + (k + 1) = c + 1 + k by omega] at h2
    rw [show k + 1 + k' = (k + k') + 1 by omega]
    exact ⟨fun z => ih k' (c + 1) _ m' m'' (h.1 z) h2, fun z => ⟨(h.2.1 z).1, ih k' (c + 1) _ m' m'' (h.2.1 z).2 h2⟩, fun z z' => ih k' (c + 1) _ m' m'' (h.2.2 z z') h2⟩
theorem fo_pass_neu (g : Nat → Nat) : ∀ k c m, (∀ j, j < k → g (c + j) ≠ 40 ∧ g (c + j) ≠ 41) → fo_pass g k c m m := by
  intro k
  induction k with
  | zero => intro c m h; exact rfl
  | succ k ih =>
    intro c m h
    have h0 := h 0 (by omega)
    rw [Nat.add_zero] at h0
    refine ⟨fun z => absurd z h0.1, fun z => absurd z h0.2, fun _ _ => ih (c + 1) m fun j hj => ?_⟩
    have := h (j + 1) (by omega)
    rw [show c + (j + 1) = c + 1 + j by omega] at this
    exact this
theorem fo_pass_br (g : Nat → Nat) (k c m : Nat) (hm : 1 ≤ m) (h0 : g c = 40) (h1 : g (c + k + 1) = 41) (h : fo_pass g k (c + 1) (m + 1) (m + 1)) : fo_pass g (k + 2) c m m := by
  rw [show k + 2 = 1 + (k + 1) by omega]
  refine fo_pass_add g 1 (k + 1) c m (m + 1) m ⟨fun _ => rfl, fun z => absurd (h0.symm.trans z) (by decide), fun z => absurd h0 z⟩ ?_
  refine fo_pass_add g k 1 (c + 1) (m + 1) (m + 1) m h ?_
  rw [show c + 1 + k = c + k + 1 by omega]
  exact ⟨fun z => absurd (h1.symm.trans z) (by decide), fun _ => ⟨by omega, rfl⟩, fun _ z => absurd h1 z⟩
def fo_st (k c : Nat) (s : Int32 × Int32 × Int32) : Int32 × Int32 × Int32 :=
  if k = 40 then (s.1 + 1, s.2.1, s.2.2) else if k = 41 then (s.1 + (-1), s.2.1, s.2.2)
  else if s.1 = 0 ∧ (k = 43 ∨ k = 45) then (s.1, nI c, s.2.2) else if s.1 = 0 ∧ k = 42 then (s.1, s.2.1, nI c) else s
def fo_sc (g : Nat → Nat) : Nat → Nat → Int32 × Int32 × Int32 → Int32 × Int32 × Int32
  | 0, _, s => s
  | k + 1, c, s => fo_sc g k (c + 1) (fo_st (g c) c s)
theorem fo_sc_add (g : Nat → Nat) : ∀ k k' c s, fo_sc g (k + k') c s = fo_sc g k' (c + k) (fo_sc g k c s) := by
  intro k
  induction k with
  | zero => intro k' c s; rw [Nat.zero_add]; rfl
  | succ k ih =>
    intro k' c s
    rw [show k + 1 + k' = (k + k') + 1 by omega, show c + (k + 1) = c + 1 + k by omega]
    exact ih k' (c + 1) _
theorem fo_sc_neu (g : Nat → Nat) : ∀ k c s, (∀ j, j < k → g (c + j) ≠ 40 ∧ g (c + j) ≠ 41 ∧ g (c + j) ≠ 42 ∧ g (c + j) ≠ 43 ∧ g (c + j) ≠ 45) → fo_sc g k c s = s := by
  intro k
  induction k with
  | zero => intro c s h; rfl
  | succ k ih =>
    intro c s h
    have h0 := h 0 (by omega)
    rw [Nat.add_zero] at h0
    have e : fo_st (g c) c s = s := by
      unfold fo_st
      rw [if_neg h0.1, if_neg h0.2.1, if_neg (fun z => z.2.elim h0.2.2.2.1 h0.2.2.2.2), if_neg (fun z => h0.2.2.1 z.2)]
    show fo_sc g k (c + 1) (fo_st (g c) c s) = s
    rw [e]
    refine ih (c + 1) s fun j hj => ?_
    have := h (j + 1) (by omega)
    rw [show c + (j + 1) = c + 1 + j by omega] at this
    exact this
theorem fo_sc_pass (g : Nat → Nat) (a b : Int32) : ∀ k c m m', 1 ≤ m → m + k < 2 ^ 31 → fo_pass g k c m m' → 1 ≤ m' ∧ fo_sc g k c (nI m, a, b) = (nI m', a, b) := by
  intro k
  induction k with
  | zero =>
    intro c m m' hm hk h
    have e : m = m' := h
    subst e
    exact ⟨hm, rfl⟩
  | succ k ih =>
    intro c m m' hm hk h
    show 1 ≤ m' ∧ fo_sc g k (c + 1) (fo_st (g c) c (nI m, a, b)) = _
    have hz : ¬ nI m = 0 := nI_ne0 (by omega) (by omega)
    by_cases h40 : g c = 40
    · have e : fo_st (g c) c (nI m, a, b) = (nI (m + 1), a, b) := by
        unfold fo_st; rw [if_pos h40, ← nI_1]
      rw [e]
      exact ih (c + 1) (m + 1) m' (by omega) (by omega) (h.1 h40)
    · by_cases h41 : g c = 41
      · have q := h.2.1 h41
        have e : fo_st (g c) c (nI m, a, b) = (nI (m - 1), a, b) := by
          unfold fo_st; rw [if_neg h40, if_pos h41]
          show (nI m + (-1), a, b) = _
          rw [show m = m - 1 + 1 by omega, pk_m1]; rfl
        rw [e]
        exact ih (c + 1) (m - 1) m' (by omega) (by omega) q.2
      · have e : fo_st (g c) c (nI m, a, b) = (nI m, a, b) := by
          unfold fo_st; rw [if_neg h40, if_neg h41, if_neg (fun z => hz z.1), if_neg (fun z => hz z.1)]
        rw [e]
        exact ih (c + 1) m m' hm (by omega) (h.2.2 h40 h41)
theorem fo_sc_br (g : Nat → Nat) (a b : Int32) (k c : Nat) (hk : k < 2 ^ 30) (h0 : g c = 40) (h1 : g (c + k + 1) = 41) (h : fo_pass g k (c + 1) 1 1) : fo_sc g (k + 2) c (0, a, b) = (0, a, b) := by
  rw [show k + 2 = 1 + (k + 1) by omega, fo_sc_add]
  have e : fo_sc g 1 c (0, a, b) = (nI 1, a, b) := by
    show fo_st (g c) c (0, a, b) = _
    unfold fo_st; rw [if_pos h0]; rfl
  rw [e, fo_sc_add, (fo_sc_pass g a b k (c + 1) 1 1 (by omega) (by omega) h).2]
  show fo_st (g (c + 1 + k)) _ (nI 1, a, b) = _
  rw [show c + 1 + k = c + k + 1 by omega, h1]
  unfold fo_st
  rw [if_neg (by decide), if_pos rfl]
  show (nI 1 + (-1), a, b) = _
  rw [pk_m1 0]; rfl
theorem fo_sg_n (k : Nat) : fo_sg k ≠ 40 ∧ fo_sg k ≠ 41 := by
  unfold fo_sg
  by_cases h : k = 10
  · rw [if_pos h]; decide
  · rw [if_neg h]; by_cases h2 : k = 11
    · rw [if_pos h2]; decide
    · rw [if_neg h2]; decide
/-- the picture's baseline row, at columns from c on -/
def fo_row (t : Nat → Nat) (i p : Nat) (g : Nat → Nat) (c : Nat) : Prop := ∀ j, j < fo_W t i + 2 * p → g (c + j) = fo_bp t i p (fo_B t i) j
theorem fo_row0 {t : Nat → Nat} {i : Nat} {g : Nat → Nat} {c : Nat} (h : ∀ j, j < fo_W t i → g (c + j) = fo_pic t i (fo_B t i) j) : fo_row t i 0 g c := by
  intro j hj; rw [fo_bp0]; exact h j hj
theorem fo_row_in {t : Nat → Nat} {i : Nat} {g : Nat → Nat} {c : Nat} (h : fo_row t i 1 g c) : g c = 40 ∧ g (c + fo_W t i + 1) = 41 ∧ fo_row t i 0 g (c + 1) := by
  refine ⟨?_, ?_, ?_⟩
  · have := h 0 (by omega); rw [fo_bp1l] at this; exact this
  · have := h (fo_W t i + 1) (by omega); rw [fo_bp1r] at this; exact this
  · refine fo_row0 fun j hj => ?_
    have := h (j + 1) (by omega)
    rw [fo_bp1m t i _ hj, show c + (j + 1) = c + 1 + j by omega] at this; exact this
theorem fo_row_A {t : Nat → Nat} {n i : Nat} (wf : fo_WF t n) (hi : i < n) (h1 : 10 ≤ t i) (h12 : t i ≤ 12) {g : Nat → Nat} {c : Nat} (h : fo_row t i 0 g c) :
    fo_row t (fo_f t i) (fo_pA t i) g c ∧ g (c + (fo_W t (fo_f t i) + 2 * fo_pA t i)) = fo_sg (t i) ∧ fo_row t (i - 1) (fo_pB t i) g (c + (fo_W t (fo_f t i) + 2 * fo_pA t i) + 1) := by
  obtain ⟨h0, h4, h5⟩ := fo_op wf hi h1
  obtain ⟨q3, q4, q5⟩ := fo_D_c h1 h12 h0
  obtain ⟨g1, g2, g3, g4⟩ := fo_gc (t := t) (i := i) h12
  have za := fo_sz wf (fo_f t i) (by omega)
  have zb := fo_sz wf (i - 1) (by omega)
  refine ⟨fun j hj => ?_, ?_, fun j hj => ?_⟩
  · rw [h j (by omega), fo_bp0, fo_vA wf hi h1 h12 hj, if_pos (by omega), show fo_B t i - fo_fy t i = fo_B t (fo_f t i) by omega]
  · rw [h _ (by omega), fo_bp0, fo_vS wf hi h1 h12 rfl, if_pos rfl]
  · rw [show c + (fo_W t (fo_f t i) + 2 * fo_pA t i) + 1 + j = c + (fo_W t (fo_f t i) + 2 * fo_pA t i + 1 + j) by omega, h _ (by omega), fo_bp0, fo_vB wf hi h1 h12 hj, if_pos (by omega), show fo_B t i - fo_sy t i = fo_B t (i - 1) by omega]
theorem fo_row_P {t : Nat → Nat} {n i : Nat} (wf : fo_WF t n) (hi : i < n) (h14 : t i = 14) {g : Nat → Nat} {c : Nat} (h : fo_row t i 0 g c) :
    fo_row t (fo_f t i) (fo_pA t i) g c ∧ ∀ j, j < fo_W t (i - 1) → g (c + (fo_W t (fo_f t i) + 2 * fo_pA t i) + j) = 32 := by
  obtain ⟨h0, h4, h5⟩ := fo_op wf hi (by omega)
  obtain ⟨q2, q3, q4, q5⟩ := fo_D_14 h14 h0
  have za := fo_sz wf (fo_f t i) (by omega)
  refine ⟨fun j hj => ?_, fun j hj => ?_⟩
  · rw [h j (by omega), fo_bp0, q5, fo_vP wf hi h14 (by omega), if_pos hj]
  · rw [show c + (fo_W t (fo_f t i) + 2 * fo_pA t i) + j = c + (fo_W t (fo_f t i) + 2 * fo_pA t i + j) by omega, h _ (by omega), fo_bp0, q5, fo_vP wf hi h14 (by omega), if_neg (by omega)]
theorem fo_ps_p {t : Nat → Nat} {i p : Nat} (hp : p ≤ 1) (h : ∀ g c m, 1 ≤ m → fo_row t i 0 g c → fo_pass g (fo_W t i) c m m) : ∀ g c m, 1 ≤ m → fo_row t i p g c → fo_pass g (fo_W t i + 2 * p) c m m := by
  intro g c m hm hr
  by_cases p0 : p = 0
  · subst p0; exact h g c m hm hr
  · have p1 : p = 1 := by omega
    subst p1
    obtain ⟨a, b, d⟩ := fo_row_in hr
    exact fo_pass_br g (fo_W t i) c m hm a b (h g (c + 1) (m + 1) (by omega) d)
theorem fo_ps {t : Nat → Nat} {n : Nat} (wf : fo_WF t n) : ∀ i, i < n → ∀ g c m, 1 ≤ m → fo_row t i 0 g c → fo_pass g (fo_W t i) c m m := by
  refine fo_ind wf ?_ ?_
  · intro i hi h g c m hm hr
    have lt := (wf i hi).1
    refine fo_pass_neu g _ c m fun j hj => ?_
    rw [hr j (by omega), fo_bp0, fo_pic_d h]; omega
  · intro i hi h1 h2 h0 h4 h5 a b g c m hm hr
    have pa := fo_pA_le t i
    have pb := fo_pB_le t i
    by_cases c1 : t i = 13
    · obtain ⟨q1, q2, q3, q4, q5⟩ := fo_D_13 c1 h0
      refine fo_pass_neu g _ c m fun j hj => ?_
      rw [hr j (by omega), fo_bp0, fo_vR wf hi c1 q5]; omega
    · by_cases c2 : t i = 14
      · obtain ⟨q2, q3, q4, q5⟩ := fo_D_14 c2 h0
        obtain ⟨r1, r2⟩ := fo_row_P wf hi c2 hr
        rw [q3]
        refine fo_pass_add g _ _ c m m m (fo_ps_p pa a g c m hm r1) (fo_pass_neu g _ _ m fun j hj => ?_)
        rw [r2 j hj]; omega
      · obtain ⟨q3, q4, q5⟩ := fo_D_c h1 (by omega) h0
        obtain ⟨r1, r2, r3⟩ := fo_row_A wf hi h1 (by omega) hr
        rw [q3]
        refine fo_pass_add g _ _ c m m m ?_ (fo_ps_p pb b g _ m hm r3)
        refine fo_pass_add g _ 1 c m m m (fo_ps_p pa a g c m hm r1) ?_
        refine fo_pass_neu g 1 _ m fun j hj => ?_
        rw [show j = 0 by omega, Nat.add_zero, r2]
        exact fo_sg_n _
/-- what the scan leaves of a subformula's row, outside brackets -/
def fo_scr (t : Nat → Nat) (i c : Nat) (a b a' b' : Int32) : Prop :=
  (t i = 10 ∨ t i = 11 → a' = nI (c + (fo_W t (fo_f t i) + 2 * fo_pA t i))) ∧ (t i = 12 → a' = a ∧ b' = nI (c + (fo_W t (fo_f t i) + 2 * fo_pA t i))) ∧ (t i < 10 ∨ 13 ≤ t i → a' = a ∧ b' = b)
theorem fo_sc_brk {t : Nat → Nat} {n i : Nat} (wf : fo_WF t n) (hi : i < n) {g : Nat → Nat} {c : Nat} (hw : fo_W t i < 2 ^ 30) (hr : fo_row t i 1 g c) (a b : Int32) : fo_sc g (fo_W t i + 2) c (0, a, b) = (0, a, b) := by
  obtain ⟨x, y, z⟩ := fo_row_in hr
  exact fo_sc_br g a b _ c hw x y (fo_ps wf i hi g (c + 1) 1 (by omega) z)
theorem fo_padA14 {t : Nat → Nat} {i : Nat} (h : t i = 14) (h2 : fo_pA t i = 0) : t (fo_f t i) < 10 := by
  unfold fo_pA fo_pad at h2
  rw [h, if_neg (by omega), if_neg (by omega), if_pos rfl] at h2
  by_cases q : 0 = 0 ∧ 10 ≤ t (fo_f t i)
  · rw [if_pos q] at h2; omega
  · omega
theorem fo_padB10 {t : Nat → Nat} {i : Nat} (h : t i = 10 ∨ t i = 11) (h2 : fo_pB t i = 0) : t (i - 1) ≠ 10 ∧ t (i - 1) ≠ 11 := by
  unfold fo_pB fo_pad at h2
  rw [if_pos h] at h2
  by_cases q : 1 = 1 ∧ (t (i - 1) = 10 ∨ t (i - 1) = 11)
  · rw [if_pos q] at h2; omega
  · omega
theorem fo_padA12 {t : Nat → Nat} {i : Nat} (h : t i = 12) (h2 : fo_pA t i = 0) : t (fo_f t i) ≠ 10 ∧ t (fo_f t i) ≠ 11 := by
  unfold fo_pA fo_pad at h2
  rw [h, if_neg (by omega), if_pos rfl] at h2
  by_cases q : (t (fo_f t i) = 10 ∨ t (fo_f t i) = 11) ∨ (0 = 1 ∧ t (fo_f t i) = 12)
  · rw [if_pos q] at h2; omega
  · omega
theorem fo_padB12 {t : Nat → Nat} {i : Nat} (h : t i = 12) (h2 : fo_pB t i = 0) : t (i - 1) ≠ 10 ∧ t (i - 1) ≠ 11 ∧ t (i - 1) ≠ 12 := by
  unfold fo_pB fo_pad at h2
  rw [h, if_neg (by omega), if_pos rfl] at h2
  by_cases q : (t (i - 1) = 10 ∨ t (i - 1) = 11) ∨ (1 = 1 ∧ t (i - 1) = 12)
  · rw [if_pos q] at h2; omega
  · omega
theorem fo_sc1 (g : Nat → Nat) (c : Nat) (s : Int32 × Int32 × Int32) : fo_sc g 1 c s = fo_st (g c) c s := rfl
theorem fo_st_sum (k c : Nat) (a b : Int32) (h : k = 10 ∨ k = 11) : fo_st (fo_sg k) c (0, a, b) = (0, nI c, b) := by
  rcases h with h | h <;> subst h <;> rfl
theorem fo_st_mul (c : Nat) (a b : Int32) : fo_st (fo_sg 12) c (0, a, b) = (0, a, nI c) := by rfl
theorem fo_scan {t : Nat → Nat} {n : Nat} (wf : fo_WF t n) (hn : n < 2 ^ 20) : ∀ i, i < n → ∀ g c a b, fo_row t i 0 g c → ∃ a' b', fo_sc g (fo_W t i) c (0, a, b) = (0, a', b') ∧ fo_scr t i c a b a' b' := by
  refine fo_ind wf ?_ ?_
  · intro i hi h g c a b hr
    have lt := (wf i hi).1
    refine ⟨a, b, fo_sc_neu g _ c _ fun j hj => ?_, fun z => by omega, fun z => by omega, fun _ => ⟨rfl, rfl⟩⟩
    rw [hr j (by omega), fo_bp0, fo_pic_d h]; omega
  · intro i hi h1 h2 h0 h4 h5 ia ib g c a b hr
    have pa := fo_pA_le t i
    have pb := fo_pB_le t i
    have za := fo_sz wf (fo_f t i) (by omega)
    have zb := fo_sz wf (i - 1) (by omega)
    have la := fo_L_le wf (fo_f t i) (by omega)
    have lb := fo_L_le wf (i - 1) (by omega)
    by_cases c1 : t i = 13
    · obtain ⟨q1, q2, q3, q4, q5⟩ := fo_D_13 c1 h0
      refine ⟨a, b, fo_sc_neu g _ c _ fun j hj => ?_, fun z => by omega, fun z => by omega, fun _ => ⟨rfl, rfl⟩⟩
      rw [hr j (by omega), fo_bp0, fo_vR wf hi c1 q5]; omega
    · by_cases c2 : t i = 14
      · obtain ⟨q2, q3, q4, q5⟩ := fo_D_14 c2 h0
        obtain ⟨r1, r2⟩ := fo_row_P wf hi c2 hr
        refine ⟨a, b, ?_, fun z => by omega, fun z => by omega, fun _ => ⟨rfl, rfl⟩⟩
        rw [q3, fo_sc_add]
        have e : fo_sc g (fo_W t (fo_f t i) + 2 * fo_pA t i) c (0, a, b) = (0, a, b) := by
          by_cases p0 : fo_pA t i = 0
          · rw [p0] at r1 ⊢
            have d := fo_padA14 c2 p0
            obtain ⟨a', b', e1, e2⟩ := ia g c a b r1
            obtain ⟨x, y⟩ := e2.2.2 (Or.inl d)
            rw [x, y] at e1; exact e1
          · have p1 : fo_pA t i = 1 := by omega
            rw [p1] at r1 ⊢
            exact fo_sc_brk wf (by omega) (by omega) r1 a b
        rw [e]
        refine fo_sc_neu g _ _ _ fun j hj => ?_
        rw [r2 j hj]; omega
      · obtain ⟨q3, q4, q5⟩ := fo_D_c h1 (by omega) h0
        obtain ⟨r1, r2, r3⟩ := fo_row_A wf hi h1 (by omega) hr
        rw [q3]
        -- the first operand
        have eA : ∃ a' b', fo_sc g (fo_W t (fo_f t i) + 2 * fo_pA t i) c (0, a, b) = (0, a', b') ∧ (t i = 12 → a' = a) := by
          by_cases p0 : fo_pA t i = 0
          · rw [p0] at r1 ⊢
            obtain ⟨a', b', e1, e2⟩ := ia g c a b r1
            refine ⟨a', b', e1, fun z => ?_⟩
            obtain ⟨x, y⟩ := fo_padA12 z p0
            by_cases k : t (fo_f t i) = 12
            · exact (e2.2.1 k).1
            · exact (e2.2.2 (by omega)).1
          · have p1 : fo_pA t i = 1 := by omega
            rw [p1] at r1 ⊢
            exact ⟨a, b, fo_sc_brk wf (by omega) (by omega) r1 a b, fun _ => rfl⟩
        obtain ⟨a1, b1, e1, e2⟩ := eA
        have eB : ∀ a b, ∃ a' b', fo_sc g (fo_W t (i - 1) + 2 * fo_pB t i) (c + (fo_W t (fo_f t i) + 2 * fo_pA t i) + 1) (0, a, b) = (0, a', b') ∧ (t i = 10 ∨ t i = 11 → a' = a) ∧ (t i = 12 → a' = a ∧ b' = b) := by
          intro a b
          by_cases p0 : fo_pB t i = 0
          · rw [p0] at r3 ⊢
            obtain ⟨a', b', e1, e2⟩ := ib g _ a b r3
            refine ⟨a', b', e1, fun z => ?_, fun z => ?_⟩
            · obtain ⟨x, y⟩ := fo_padB10 z p0
              by_cases k : t (i - 1) = 12
              · exact (e2.2.1 k).1
              · exact (e2.2.2 (by omega)).1
            · obtain ⟨x, y, w⟩ := fo_padB12 z p0
              exact e2.2.2 (by omega)
          · have p1 : fo_pB t i = 1 := by omega
            rw [p1] at r3 ⊢
            exact ⟨a, b, fo_sc_brk wf (by omega) (by omega) r3 a b, fun _ => rfl, fun _ => ⟨rfl, rfl⟩⟩
        by_cases k : t i = 12
        · obtain ⟨a2, b2, e3, e4, e5⟩ := eB a1 (nI (c + (fo_W t (fo_f t i) + 2 * fo_pA t i)))
          obtain ⟨x, y⟩ := e5 k
          refine ⟨a2, b2, ?_, fun z => by omega, fun _ => ⟨by rw [x, e2 k], y⟩, fun z => by omega⟩
          rw [fo_sc_add g (fo_W t (fo_f t i) + 2 * fo_pA t i + 1), fo_sc_add g (fo_W t (fo_f t i) + 2 * fo_pA t i) 1, e1, fo_sc1, r2, k, fo_st_mul]
          exact e3
        · obtain ⟨a2, b2, e3, e4, e5⟩ := eB (nI (c + (fo_W t (fo_f t i) + 2 * fo_pA t i))) b1
          refine ⟨a2, b2, ?_, fun z => e4 z, fun z => absurd z k, fun z => by omega⟩
          rw [fo_sc_add g (fo_W t (fo_f t i) + 2 * fo_pA t i + 1), fo_sc_add g (fo_W t (fo_f t i) + 2 * fo_pA t i) 1, e1, fo_sc1, r2, fo_st_sum _ _ _ _ (by omega)]
          exact e3
end
section
/-! places of all boxes; the innermost box -/
/-- operators between lo and hi: their operands stand where they should -/
def fo_Pl (t yy xx : Nat → Nat) (lo hi : Nat) : Prop := ∀ j, lo ≤ j → j < hi → 10 ≤ t j →
  yy (fo_f t j) = yy j + fo_fy t j ∧ xx (fo_f t j) = xx j + fo_fx t j ∧ yy (j - 1) = yy j + fo_sy t j ∧ xx (j - 1) = xx j + fo_sx t j
theorem fo_pl_ex {t : Nat → Nat} {n : Nat} (wf : fo_WF t n) : ∀ i, i < n → ∀ y x, ∃ yy xx : Nat → Nat, yy i = y ∧ xx i = x ∧ fo_Pl t yy xx (i + 1 - fo_L t i) (i + 1) := by
  refine fo_ind wf ?_ ?_
  · intro i hi h y x
    refine ⟨fun _ => y, fun _ => x, rfl, rfl, fun j j1 j2 j3 => ?_⟩
    rw [fo_L_d h] at j1
    rw [show j = i by omega] at j3
    omega
  · intro i hi h1 h2 h0 h4 h5 a b y x
    obtain ⟨ya, xa, a1, a2, a3⟩ := a (y + fo_fy t i) (x + fo_fx t i)
    obtain ⟨yb, xb, b1, b2, b3⟩ := b (y + fo_sy t i) (x + fo_sx t i)
    have lf := fo_L_le wf (fo_f t i) (by omega)
    have lp := fo_L_pos t (i - 1)
    refine ⟨fun j => if j = i then y else if j ≤ fo_f t i then ya j else yb j, fun j => if j = i then x else if j ≤ fo_f t i then xa j else xb j, if_pos rfl, if_pos rfl, fun j j1 j2 j3 => ?_⟩
    dsimp only
    by_cases e : j = i
    · subst e
      rw [if_neg (c := fo_f t j = j) (by omega), if_neg (c := fo_f t j = j) (by omega), if_pos (c := fo_f t j ≤ fo_f t j) (Nat.le_refl _), if_pos (c := fo_f t j ≤ fo_f t j) (Nat.le_refl _), if_pos (c := j = j) rfl, if_pos (c := j = j) rfl, if_neg (c := j - 1 = j) (by omega), if_neg (c := j - 1 = j) (by omega), if_neg (c := j - 1 ≤ fo_f t j) (by omega), if_neg (c := j - 1 ≤ fo_f t j) (by omega)]
      exact ⟨a1, a2, b1, b2⟩
    · obtain ⟨o1, o2, o3⟩ := fo_op wf (i := j) (by omega) j3
      have lfj := fo_L_le wf (fo_f t j) (by omega)
      have lpj := fo_L_pos t (j - 1)
      have lpf := fo_L_pos t (fo_f t j)
      by_cases q : j ≤ fo_f t i
      · have r := a3 j (by omega) (by omega) j3
        rw [if_neg (c := fo_f t j = i) (by omega), if_neg (c := fo_f t j = i) (by omega), if_pos (c := fo_f t j ≤ fo_f t i) (by omega), if_pos (c := fo_f t j ≤ fo_f t i) (by omega), if_neg (c := j = i) e, if_neg (c := j = i) e, if_pos (c := j ≤ fo_f t i) q, if_pos (c := j ≤ fo_f t i) q, if_neg (c := j - 1 = i) (by omega), if_neg (c := j - 1 = i) (by omega), if_pos (c := j - 1 ≤ fo_f t i) (by omega), if_pos (c := j - 1 ≤ fo_f t i) (by omega)]
        exact r
      · have nb := fo_nest wf (i - 1) (by omega) j (by omega) (by omega)
        have r := b3 j (by omega) (by omega) j3
        rw [if_neg (c := fo_f t j = i) (by omega), if_neg (c := fo_f t j = i) (by omega), if_neg (c := fo_f t j ≤ fo_f t i) (by omega), if_neg (c := fo_f t j ≤ fo_f t i) (by omega), if_neg (c := j = i) e, if_neg (c := j = i) e, if_neg (c := j ≤ fo_f t i) q, if_neg (c := j ≤ fo_f t i) q, if_neg (c := j - 1 = i) (by omega), if_neg (c := j - 1 = i) (by omega), if_neg (c := j - 1 ≤ fo_f t i) (by omega), if_neg (c := j - 1 ≤ fo_f t i) (by omega)]
        exact r
theorem fo_Pl_sub {t yy xx : Nat → Nat} {lo hi lo' hi' : Nat} (h : fo_Pl t yy xx lo hi) (h1 : lo ≤ lo') (h2 : hi' ≤ hi) : fo_Pl t yy xx lo' hi' := fun j a b => h j (by omega) (by omega)
/-- the cell lies in box j -/
abbrev fo_at (t yy xx : Nat → Nat) (j r c : Nat) : Prop := fo_in (yy j) (xx j) (fo_H t j) (fo_W t j) r c
theorem fo_inside {t : Nat → Nat} {n : Nat} (wf : fo_WF t n) {yy xx : Nat → Nat} : ∀ i, i < n → fo_Pl t yy xx (i + 1 - fo_L t i) (i + 1) → ∀ j, j ≤ i → i < j + fo_L t i →
    yy i ≤ yy j ∧ yy j + fo_H t j ≤ yy i + fo_H t i ∧ xx i ≤ xx j ∧ xx j + fo_W t j ≤ xx i + fo_W t i ∧ (j < i → fo_W t j < fo_W t i) := by
  refine fo_ind wf ?_ ?_
  · intro i hi h pl j j1 j2
    rw [fo_L_d h] at j2
    rw [show j = i by omega]; omega
  · intro i hi h1 h2 h0 h4 h5 a b pl j j1 j2
    have lf := fo_L_le wf (fo_f t i) (by omega)
    have lp := fo_L_pos t (i - 1)
    have lq := fo_L_pos t (fo_f t i)
    by_cases e : j = i
    · rw [e]; omega
    · have g := fo_geo wf hi h1
      have q := pl i (by omega) (by omega) h1
      by_cases k : j ≤ fo_f t i
      · have := a (fo_Pl_sub pl (by omega) (by omega)) j k (by omega)
        omega
      · have := b (fo_Pl_sub pl (by omega) (by omega)) j (by omega) (by omega)
        omega
/-- a cell of a box lies in one operand's box at most -/
theorem fo_apart {t : Nat → Nat} {n i : Nat} (wf : fo_WF t n) (hi : i < n) (h : 10 ≤ t i) {yy xx : Nat → Nat} (pl : fo_Pl t yy xx (i + 1 - fo_L t i) (i + 1)) {r c : Nat} (ha : fo_at t yy xx (fo_f t i) r c) (hb : fo_at t yy xx (i - 1) r c) : False := by
  have g := fo_geo wf hi h
  have lp := fo_L_pos t i
  have q := pl i (by omega) (by omega) h
  omega
/-- of two boxes that hold the cell, the earlier one is narrower and no higher -/
theorem fo_chain {t : Nat → Nat} {n : Nat} (wf : fo_WF t n) {yy xx : Nat → Nat} {r c : Nat} : ∀ i, i < n → fo_Pl t yy xx (i + 1 - fo_L t i) (i + 1) → ∀ j k, i < j + fo_L t i → j < k → k ≤ i → fo_at t yy xx j r c → fo_at t yy xx k r c → fo_W t j < fo_W t k ∧ fo_H t j ≤ fo_H t k := by
  refine fo_ind wf ?_ ?_
  · intro i hi h pl j k j1 j2 j3
    rw [fo_L_d h] at j1
    omega
  · intro i hi h1 h2 h0 h4 h5 a b pl j k j1 j2 j3 hj hk
    have lf := fo_L_le wf (fo_f t i) (by omega)
    have lp := fo_L_pos t (i - 1)
    have lq := fo_L_pos t (fo_f t i)
    by_cases e : k = i
    · have := fo_inside wf i hi pl j (by omega) (by omega)
      rw [e]; omega
    · by_cases z : k ≤ fo_f t i
      · exact a (fo_Pl_sub pl (by omega) (by omega)) j k (by omega) j2 z hj hk
      · by_cases z2 : j ≤ fo_f t i
        · exfalso
          have ij := fo_inside wf (fo_f t i) (by omega) (fo_Pl_sub pl (by omega) (by omega)) j z2 (by omega)
          have ik := fo_inside wf (i - 1) (by omega) (fo_Pl_sub pl (by omega) (by omega)) k (by omega) (by omega)
          exact fo_apart wf hi h1 pl (r := r) (c := c) (by omega) (by omega)
        · exact b (fo_Pl_sub pl (by omega) (by omega)) j k (by omega) j2 (by omega) hj hk
/-- the cell belongs to k itself, to no operand of it -/
def fo_Own (t yy xx : Nat → Nat) (k r c : Nat) : Prop := fo_at t yy xx k r c ∧ (10 ≤ t k → ¬ fo_at t yy xx (fo_f t k) r c ∧ ¬ fo_at t yy xx (k - 1) r c)
/-- the character that k itself draws there -/
def fo_chr (t yy xx : Nat → Nat) (k r c : Nat) : Nat := if t k < 10 then 48 + t k else fo_own t k (r - yy k) (c - xx k)
theorem fo_pic_at {t : Nat → Nat} {n i : Nat} (wf : fo_WF t n) (hi : i < n) (h : 10 ≤ t i) {yy xx : Nat → Nat} (pl : fo_Pl t yy xx (i + 1 - fo_L t i) (i + 1)) {r c : Nat} (hc : fo_at t yy xx i r c) :
    (fo_at t yy xx (fo_f t i) r c → fo_pic t i (r - yy i) (c - xx i) = fo_pic t (fo_f t i) (r - yy (fo_f t i)) (c - xx (fo_f t i)))
    ∧ (fo_at t yy xx (i - 1) r c → fo_pic t i (r - yy i) (c - xx i) = fo_pic t (i - 1) (r - yy (i - 1)) (c - xx (i - 1)))
    ∧ (¬ fo_at t yy xx (fo_f t i) r c → ¬ fo_at t yy xx (i - 1) r c → fo_pic t i (r - yy i) (c - xx i) = fo_own t i (r - yy i) (c - xx i)) := by
  obtain ⟨h0, h4, h5⟩ := fo_op wf hi h
  have lp := fo_L_pos t i
  obtain ⟨q1, q2, q3, q4⟩ := pl i (by omega) (by omega) h
  have g := fo_geo wf hi h
  refine ⟨fun z => ?_, fun z => ?_, fun z z' => ?_⟩
  · rw [fo_pic_o h h0, if_pos (by omega), q1, q2, show r - yy i - fo_fy t i = r - (yy i + fo_fy t i) by omega, show c - xx i - fo_fx t i = c - (xx i + fo_fx t i) by omega]
  · rw [fo_pic_o h h0, if_neg (by omega), if_pos (by omega), q3, q4, show r - yy i - fo_sy t i = r - (yy i + fo_sy t i) by omega, show c - xx i - fo_sx t i = c - (xx i + fo_sx t i) by omega]
  · rw [fo_pic_o h h0, if_neg (by omega), if_neg (by omega)]
/-- in the box of an inner subformula the picture is its own -/
theorem fo_restr {t : Nat → Nat} {n : Nat} (wf : fo_WF t n) {yy xx : Nat → Nat} {r c : Nat} : ∀ i, i < n → fo_Pl t yy xx (i + 1 - fo_L t i) (i + 1) → ∀ j, j ≤ i → i < j + fo_L t i → fo_at t yy xx j r c → fo_pic t i (r - yy i) (c - xx i) = fo_pic t j (r - yy j) (c - xx j) := by
  refine fo_ind wf ?_ ?_
  · intro i hi h pl j j1 j2 hj
    rw [fo_L_d h] at j2
    rw [show j = i by omega]
  · intro i hi h1 h2 h0 h4 h5 a b pl j j1 j2 hj
    have lf := fo_L_le wf (fo_f t i) (by omega)
    have lp := fo_L_pos t (i - 1)
    have lq := fo_L_pos t (fo_f t i)
    by_cases e : j = i
    · rw [e]
    · have ii := fo_inside wf i hi pl j j1 j2
      obtain ⟨z1, z2, z3⟩ := fo_pic_at wf hi h1 pl (r := r) (c := c) (by omega)
      by_cases k : j ≤ fo_f t i
      · have pf := fo_Pl_sub pl (lo' := fo_f t i + 1 - fo_L t (fo_f t i)) (hi' := fo_f t i + 1) (by omega) (by omega)
        have ij := fo_inside wf (fo_f t i) (by omega) pf j k (by omega)
        rw [z1 (by omega)]
        exact a pf j k (by omega) hj
      · have ps := fo_Pl_sub pl (lo' := i - 1 + 1 - fo_L t (i - 1)) (hi' := i - 1 + 1) (by omega) (by omega)
        have ij := fo_inside wf (i - 1) (by omega) ps j (by omega) (by omega)
        rw [z2 (by omega)]
        exact b ps j (by omega) (by omega) hj
theorem fo_chr_pic {t : Nat → Nat} {n k : Nat} (wf : fo_WF t n) (hk : k < n) {yy xx : Nat → Nat} (pl : fo_Pl t yy xx (k + 1 - fo_L t k) (k + 1)) {r c : Nat} (h : fo_Own t yy xx k r c) : fo_pic t k (r - yy k) (c - xx k) = fo_chr t yy xx k r c := by
  unfold fo_chr
  by_cases d : t k < 10
  · rw [if_pos d, fo_pic_d d]
  · rw [if_neg d]
    obtain ⟨z1, z2, z3⟩ := fo_pic_at wf hk (by omega) pl (r := r) (c := c) h.1
    obtain ⟨u, v⟩ := h.2 (by omega)
    exact z3 u v
/-- the first box that holds the cell: the cell is its own -/
theorem fo_least {t : Nat → Nat} {n : Nat} (wf : fo_WF t n) {yy xx : Nat → Nat} {r c : Nat} : ∀ i, i < n → fo_Pl t yy xx (i + 1 - fo_L t i) (i + 1) → fo_at t yy xx i r c → ∃ k, k ≤ i ∧ i < k + fo_L t i ∧ fo_Own t yy xx k r c ∧ ∀ j, i < j + fo_L t i → j < k → ¬ fo_at t yy xx j r c := by
  refine fo_ind wf ?_ ?_
  · intro i hi h pl hc
    rw [fo_L_d h]
    exact ⟨i, by omega, by omega, ⟨hc, fun z => by omega⟩, fun j j1 j2 => by omega⟩
  · intro i hi h1 h2 h0 h4 h5 a b pl hc
    have lf := fo_L_le wf (fo_f t i) (by omega)
    have lp := fo_L_pos t (i - 1)
    have lq := fo_L_pos t (fo_f t i)
    have pf := fo_Pl_sub pl (lo' := fo_f t i + 1 - fo_L t (fo_f t i)) (hi' := fo_f t i + 1) (by omega) (by omega)
    have ps := fo_Pl_sub pl (lo' := i - 1 + 1 - fo_L t (i - 1)) (hi' := i - 1 + 1) (by omega) (by omega)
    by_cases ca : fo_at t yy xx (fo_f t i) r c
    · obtain ⟨k, k1, k2, k3, k4⟩ := a pf ca
      exact ⟨k, by omega, by omega, k3, fun j j1 j2 => k4 j (by omega) j2⟩
    · have na : ∀ j, j ≤ fo_f t i → i < j + fo_L t i → ¬ fo_at t yy xx j r c := by
        intro j j1 j2 hj
        have ij := fo_inside wf (fo_f t i) (by omega) pf j j1 (by omega)
        exact ca (by omega)
      by_cases cb : fo_at t yy xx (i - 1) r c
      · obtain ⟨k, k1, k2, k3, k4⟩ := b ps cb
        refine ⟨k, by omega, by omega, k3, fun j j1 j2 => ?_⟩
        by_cases z : j ≤ fo_f t i
        · exact na j z j1
        · exact k4 j (by omega) j2
      · refine ⟨i, by omega, by omega, ⟨hc, fun _ => ⟨ca, cb⟩⟩, fun j j1 j2 => ?_⟩
        by_cases z : j ≤ fo_f t i
        · exact na j z j1
        · intro hj
          have ij := fo_inside wf (i - 1) (by omega) ps j (by omega) (by omega)
          exact cb (by omega)
end
section
/-! what depends on the kinds of the tokens alone; a subformula taken out -/
def fo_cl (a b : Nat) : Prop := a = b ∨ (a < 10 ∧ b < 10) ∨ ((a = 10 ∨ a = 11) ∧ (b = 10 ∨ b = 11))
theorem fo_cl_d {a b : Nat} (h : fo_cl a b) : a < 10 ↔ b < 10 := by unfold fo_cl at h; omega
theorem fo_cl_pad {a b c d s : Nat} (h : fo_cl a b) (h2 : fo_cl c d) : fo_pad a c s = fo_pad b d s := by
  unfold fo_cl at h h2; unfold fo_pad; grind
theorem fo_cl_L {t t' : Nat → Nat} {n : Nat} (h : ∀ j, j < n → fo_cl (t j) (t' j)) : ∀ i, i < n → fo_L t i = fo_L t' i := fo_L_ext fun j hj => fo_cl_d (h j hj)
theorem fo_cl_f {t t' : Nat → Nat} {n : Nat} (h : ∀ j, j < n → fo_cl (t j) (t' j)) {i : Nat} (hi : i < n) : fo_f t i = fo_f t' i := by
  unfold fo_f; rw [fo_cl_L h (i - 1) (by omega)]
theorem fo_cl_WF {t t' : Nat → Nat} {n : Nat} (h : ∀ j, j < n → fo_cl (t j) (t' j)) (wf : fo_WF t n) (h14 : ∀ j, j < n → t' j ≤ 14) : fo_WF t' n := by
  intro i hi
  refine ⟨h14 i hi, fun z => ?_⟩
  rw [← fo_cl_L h (i - 1) (by omega)]
  have := fo_cl_d (h i hi)
  exact (wf i hi).2 (by omega)
theorem fo_cl_p {t t' : Nat → Nat} {n : Nat} (h : ∀ j, j < n → fo_cl (t j) (t' j)) {i : Nat} (hi : i < n) : fo_pA t i = fo_pA t' i ∧ fo_pB t i = fo_pB t' i := by
  unfold fo_pA fo_pB
  rw [← fo_cl_f h hi]
  exact ⟨fo_cl_pad (h i hi) (h _ (by unfold fo_f; omega)), fo_cl_pad (h i hi) (h _ (by omega))⟩
theorem fo_cl_D {t t' : Nat → Nat} {n : Nat} (wf : fo_WF t n) (h : ∀ j, j < n → fo_cl (t j) (t' j)) : ∀ i, i < n → fo_W t i = fo_W t' i ∧ fo_H t i = fo_H t' i ∧ fo_B t i = fo_B t' i := by
  refine fo_ind wf ?_ ?_
  · intro i hi d
    obtain ⟨a, b, c⟩ := fo_D_d d
    obtain ⟨a', b', c'⟩ := fo_D_d ((fo_cl_d (h i hi)).mp d)
    rw [a, b, c, a', b', c']; exact ⟨rfl, rfl, rfl⟩
  · intro i hi h1 h2 h0 h4 h5 a b
    have ef := fo_cl_f h hi
    obtain ⟨ea, eb⟩ := fo_cl_p h hi
    have hc := h i hi
    unfold fo_cl at hc
    by_cases c1 : t i = 13
    · obtain ⟨q1, q2, q3, q4, q5⟩ := fo_D_13 c1 h0
      obtain ⟨r1, r2, r3, r4, r5⟩ := fo_D_13 (t := t') (i := i) (by omega) h0
      rw [q3, q4, q5, r3, r4, r5, ← ef, a.1, a.2.1, b.1, b.2.1]; exact ⟨rfl, rfl, rfl⟩
    · by_cases c2 : t i = 14
      · obtain ⟨q2, q3, q4, q5⟩ := fo_D_14 c2 h0
        obtain ⟨r2, r3, r4, r5⟩ := fo_D_14 (t := t') (i := i) (by omega) h0
        rw [q3, q4, q5, r3, r4, r5, ← ef, ← ea, a.1, a.2.1, a.2.2, b.1, b.2.1]; exact ⟨rfl, rfl, rfl⟩
      · obtain ⟨q3, q4, q5⟩ := fo_D_c h1 (by omega) h0
        obtain ⟨r3, r4, r5⟩ := fo_D_c (t := t') (i := i) (by omega) (by omega) h0
        rw [q3, q4, q5, r3, r4, r5, ← ef, ← ea, ← eb, a.1, a.2.1, a.2.2, b.1, b.2.1, b.2.2]; exact ⟨rfl, rfl, rfl⟩
theorem fo_cl_g {t t' : Nat → Nat} {n : Nat} (wf : fo_WF t n) (h : ∀ j, j < n → fo_cl (t j) (t' j)) {i : Nat} (hi : i < n) (h1 : 10 ≤ t i) : fo_fy t i = fo_fy t' i ∧ fo_fx t i = fo_fx t' i ∧ fo_sy t i = fo_sy t' i ∧ fo_sx t i = fo_sx t' i := by
  obtain ⟨h0, h4, h5⟩ := fo_op wf hi h1
  have ef := fo_cl_f h hi
  obtain ⟨ea, eb⟩ := fo_cl_p h hi
  obtain ⟨dw, dh, db⟩ := fo_cl_D wf h i hi
  obtain ⟨sw, sh, sb⟩ := fo_cl_D wf h (i - 1) (by omega)
  obtain ⟨fw, fh, fb⟩ := fo_cl_D wf h (fo_f t i) (by omega)
  have e13 : t i = 13 ↔ t' i = 13 := by have := h i hi; unfold fo_cl at this; omega
  have e14 : t i = 14 ↔ t' i = 14 := by have := h i hi; unfold fo_cl at this; omega
  unfold fo_fy fo_fx fo_sy fo_sx
  rw [← ef, ← ea, ← eb, ← dw, ← db, ← sw, ← sh, ← sb, ← fw, ← fh, ← fb]
  simp only [e13, e14]
  exact ⟨trivial, trivial, trivial, trivial⟩
theorem fo_cl_pic {t t' : Nat → Nat} {n : Nat} (wf : fo_WF t n) (h : ∀ j, j < n → fo_cl (t j) (t' j)) : ∀ i, i < n → (∀ j, j ≤ i → i < j + fo_L t i → t j = t' j) → fo_pic t i = fo_pic t' i := by
  refine fo_ind wf ?_ ?_
  · intro i hi d hr
    funext r c
    rw [fo_pic_d d, fo_pic_d ((fo_cl_d (h i hi)).mp d), hr i (Nat.le_refl _) (by have := fo_L_pos t i; omega)]
  · intro i hi h1 h2 h0 h4 h5 a b hr
    have ef := fo_cl_f h hi
    obtain ⟨ea, eb⟩ := fo_cl_p h hi
    obtain ⟨g1, g2, g3, g4⟩ := fo_cl_g wf h hi h1
    obtain ⟨dw, dh, db⟩ := fo_cl_D wf h i hi
    obtain ⟨sw, sh, sb⟩ := fo_cl_D wf h (i - 1) (by omega)
    obtain ⟨fw, fh, fb⟩ := fo_cl_D wf h (fo_f t i) (by omega)
    have et := hr i (Nat.le_refl _) (by have := fo_L_pos t i; omega)
    have ha := a fun j j1 j2 => hr j (by omega) (by omega)
    have hb := b fun j j1 j2 => hr j (by omega) (by omega)
    funext r c
    rw [fo_pic_o h1 h0, fo_pic_o (t := t') (i := i) (by omega) h0]
    unfold fo_own
    rw [← ef, ← ea, ← eb, ← g1, ← g2, ← g3, ← g4, ← db, ← sw, ← sh, ← fw, ← fh, ← et, ha, hb]
/-- a subformula's tokens alone -/
theorem fo_shift {t : Nat → Nat} {n k : Nat} (wf : fo_WF t n) (hk : k < n) {t' : Nat → Nat} (h : ∀ j, j < fo_L t k → t' j = t (k + 1 - fo_L t k + j)) : ∀ j, j < fo_L t k → fo_L t' j = fo_L t (k + 1 - fo_L t k + j) := by
  have lk := fo_L_le wf k hk
  intro j
  induction j using Nat.strongRecOn with
  | ind j ih =>
    intro hj
    by_cases d : t' j < 10
    · rw [fo_L_d d, fo_L_d (by rw [← h j hj]; exact d)]
    · have d2 : 10 ≤ t (k + 1 - fo_L t k + j) := by rw [← h j hj]; omega
      obtain ⟨o1, o2, o3⟩ := fo_op wf (by omega) d2
      have nb := fo_nest wf k hk (k + 1 - fo_L t k + j) (by omega) (by omega)
      have lp1 := fo_L_pos t (k + 1 - fo_L t k + j - 1)
      have lp2 := fo_L_pos t (fo_f t (k + 1 - fo_L t k + j))
      have e1 := ih (j - 1) (by omega) (by omega)
      rw [show k + 1 - fo_L t k + (j - 1) = k + 1 - fo_L t k + j - 1 by omega] at e1
      have e2 : k + 1 - fo_L t k + fo_f t' j = fo_f t (k + 1 - fo_L t k + j) := by
        unfold fo_f at o2 ⊢
        rw [e1]; omega
      have e3 := ih (fo_f t' j) (by omega) (by omega)
      rw [fo_L_o (t := t') (i := j) (by omega) (by omega), o3, e1, e3, e2]
theorem fo_shift_WF {t : Nat → Nat} {n k : Nat} (wf : fo_WF t n) (hk : k < n) {t' : Nat → Nat} (h : ∀ j, j < fo_L t k → t' j = t (k + 1 - fo_L t k + j)) : fo_WF t' (fo_L t k) := by
  have lk := fo_L_le wf k hk
  intro j hj
  rw [h j hj]
  refine ⟨(wf _ (by omega)).1, fun d => ?_⟩
  obtain ⟨o1, o2, o3⟩ := fo_op wf (by omega) d
  have nb := fo_nest wf k hk (k + 1 - fo_L t k + j) (by omega) (by omega)
  have lp1 := fo_L_pos t (k + 1 - fo_L t k + j - 1)
  have lp2 := fo_L_pos t (fo_f t (k + 1 - fo_L t k + j))
  have e1 := fo_shift wf hk h (j - 1) (by omega)
  rw [show k + 1 - fo_L t k + (j - 1) = k + 1 - fo_L t k + j - 1 by omega] at e1
  omega
end
section
/-! the component: brackets, widths, measuring, appending -/
theorem xw_p2 (a : Nat) : nI a + 2 = nI (a + 2) := nI_add a 2
theorem xw_pr {i : Nat} (h : 0 < i) : nI i - 1 = nI (i - 1) := pk_sub (b := 1) h
/-- the entry list and the boxes of its subformulas -/
def en_ok (t : Nat → Nat) (n : Nat) (a_entry a_boxStart a_boxW a_boxH a_boxB : Nat → Int32) : Prop := ∀ j, j < n → a_entry j = nI (t j) ∧ a_boxStart j = nI (j + 1 - fo_L t j) ∧ a_boxW j = nI (fo_W t j) ∧ a_boxH j = nI (fo_H t j) ∧ a_boxB j = nI (fo_B t j)
section
variable {f_rows f_cols f_room f_entryCount f_open f_readCount f_seenCount f_taskCount f_curTop f_curLeft f_curBottom f_curRight : Int32} {a_entry a_boxStart a_boxW a_boxH a_boxB a_posRow a_posCol a_grid a_readList a_seenToken a_seenTop a_seenLeft a_seenBottom a_seenRight a_taskKind a_taskTop a_taskLeft a_taskBottom a_taskRight : Nat → Int32}
theorem xw_b27 {post : Int32 → Prop} {op own sec z : Nat} (h1 : op ≤ 14) (h2 : own ≤ 14) (hs : sec ≤ 1) (hz : z = if own = 10 ∨ own = 11 then 1 else 0) (hp : post (nI (fo_pad op own sec))) : wX_bracketed_27 post (nI op) (nI sec) (nI own) (nI z) f_rows f_cols f_room f_entryCount f_open f_readCount f_seenCount f_taskCount f_curTop f_curLeft f_curBottom f_curRight a_entry a_boxStart a_boxW a_boxH a_boxB a_posRow a_posCol a_grid a_readList a_seenToken a_seenTop a_seenLeft a_seenBottom a_seenRight a_taskKind a_taskTop a_taskLeft a_taskBottom a_taskRight := by
  have P0 : fo_pad op own sec = 0 → post 0 := fun e => by rw [e] at hp; exact hp
  have P1 : fo_pad op own sec = 1 → post 1 := fun e => by rw [e] at hp; exact hp
  have hz2 : z < 2 ^ 31 := by rw [hz]; split <;> omega
  have K : (op = 10 ∨ op = 11) → wX_bracketed_41 post (nI sec) (nI z) f_rows f_cols f_room f_entryCount f_open f_readCount f_seenCount f_taskCount f_curTop f_curLeft f_curBottom f_curRight a_entry a_boxStart a_boxW a_boxH a_boxB a_posRow a_posCol a_grid a_readList a_seenToken a_seenTop a_seenLeft a_seenBottom a_seenRight a_taskKind a_taskTop a_taskLeft a_taskBottom a_taskRight := by
    intro ho
    refine pk_eq sec 0 (fun s0 => P0 ?_) (fun s0 => pk_eq z 0 (fun z0 => P0 ?_) (fun z0 => P1 ?_))
    · unfold fo_pad; grind
    · unfold fo_pad; grind
    · unfold fo_pad; grind
  refine pk_eq op 10 (fun h => K (Or.inl h)) (fun h => pk_eq op 11 (fun h' => K (Or.inr h')) (fun h' => pk_eq op 12 (fun h3 => pk_eq z 0 (fun z0 => pk_eq sec 0 (fun s0 => P0 ?_) (fun s0 => pk_eq own 12 (fun o => P1 ?_) (fun o => P0 ?_))) (fun z0 => P1 ?_)) (fun h3 => pk_eq op 14 (fun h4 => pk_eq sec 0 (fun s0 => pk_lt own 10 (fun o => P0 ?_) (fun o => P1 ?_)) (fun s0 => P0 ?_)) (fun h4 => P0 ?_))))
  all_goals (unfold fo_pad; grind)
theorem xw_bracketed {post : Int32 → Prop} {op j own sec : Nat} (hj : j < 31) (he : a_entry j = nI own) (h1 : op ≤ 14) (h2 : own ≤ 14) (hs : sec ≤ 1) (hp : post (nI (fo_pad op own sec))) : wpX_bracketed post (f_rows, f_cols, f_room, f_entryCount, f_open, f_readCount, f_seenCount, f_taskCount, f_curTop, f_curLeft, f_curBottom, f_curRight, a_entry, a_boxStart, a_boxW, a_boxH, a_boxB, a_posRow, a_posCol, a_grid, a_readList, a_seenToken, a_seenTop, a_seenLeft, a_seenBottom, a_seenRight, a_taskKind, a_taskTop, a_taskLeft, a_taskBottom, a_taskRight) (nI op) (nI j) (nI sec) := by
  refine ⟨pk_in j 31 hj, nm_r (e' := nI own) (by rw [nI_clamp (by omega)]; exact he) ?_⟩
  refine pk_eq own 10 (fun h => ?_) (fun h => pk_eq own 11 (fun h' => ?_) (fun h' => ?_))
  · exact xw_b27 (z := 1) h1 h2 hs (by rw [if_pos (Or.inl h)]) hp
  · exact xw_b27 (z := 1) h1 h2 hs (by rw [if_pos (Or.inr h')]) hp
  · exact xw_b27 (z := 0) h1 h2 hs (by rw [if_neg (by omega)]) hp
theorem xw_outer {post : Int32 → Prop} {op j own sec w : Nat} (hj : j < 31) (he : a_entry j = nI own) (h1 : op ≤ 14) (h2 : own ≤ 14) (hs : sec ≤ 1) (hw : a_boxW j = nI w) (hp : post (nI (w + 2 * fo_pad op own sec))) : wpX_outerWidth post (f_rows, f_cols, f_room, f_entryCount, f_open, f_readCount, f_seenCount, f_taskCount, f_curTop, f_curLeft, f_curBottom, f_curRight, a_entry, a_boxStart, a_boxW, a_boxH, a_boxB, a_posRow, a_posCol, a_grid, a_readList, a_seenToken, a_seenTop, a_seenLeft, a_seenBottom, a_seenRight, a_taskKind, a_taskTop, a_taskLeft, a_taskBottom, a_taskRight) (nI op) (nI j) (nI sec) := by
  unfold wpX_outerWidth
  refine xw_bracketed hj he h1 h2 hs ?_
  have b := fo_pad_le op own sec
  refine pk_eq (fo_pad op own sec) 0 (fun h => ⟨pk_in j 31 hj, ?_⟩) (fun h => ⟨pk_in j 31 hj, ?_⟩)
  · rw [nI_clamp (by omega), hw]; rw [h] at hp; exact hp
  · rw [nI_clamp (by omega), hw, xw_p2]; rw [show fo_pad op own sec = 1 by omega] at hp; exact hp
theorem xw_greater {post : Int32 → Prop} {a b : Nat} (ha : a < 2 ^ 31) (hb : b < 2 ^ 31) (hp : post (nI (max a b))) : wpX_greater post (f_rows, f_cols, f_room, f_entryCount, f_open, f_readCount, f_seenCount, f_taskCount, f_curTop, f_curLeft, f_curBottom, f_curRight, a_entry, a_boxStart, a_boxW, a_boxH, a_boxB, a_posRow, a_posCol, a_grid, a_readList, a_seenToken, a_seenTop, a_seenLeft, a_seenBottom, a_seenRight, a_taskKind, a_taskTop, a_taskLeft, a_taskBottom, a_taskRight) (nI a) (nI b) := by
  refine pk_le a b (fun h => ?_) (fun h => ?_)
  · rw [show max a b = b by omega] at hp; exact hp
  · rw [show max a b = a by omega] at hp; exact hp
theorem xw_measure {post : SX → Prop} {t : Nat → Nat} {i : Nat} (wf : fo_WF t (i + 1)) (hi : i < 31) (hop : 10 ≤ t i) (he : a_entry i = nI (t i)) (ok : en_ok t i a_entry a_boxStart a_boxW a_boxH a_boxB)
    (hp : post (f_rows, f_cols, f_room, f_entryCount, f_open, f_readCount, f_seenCount, f_taskCount, f_curTop, f_curLeft, f_curBottom, f_curRight, a_entry, upd a_boxStart i (nI (i + 1 - fo_L t i)), upd a_boxW i (nI (fo_W t i)), upd a_boxH i (nI (fo_H t i)), upd a_boxB i (nI (fo_B t i)), a_posRow, a_posCol, a_grid, a_readList, a_seenToken, a_seenTop, a_seenLeft, a_seenBottom, a_seenRight, a_taskKind, a_taskTop, a_taskLeft, a_taskBottom, a_taskRight)) : wpX_measure post (f_rows, f_cols, f_room, f_entryCount, f_open, f_readCount, f_seenCount, f_taskCount, f_curTop, f_curLeft, f_curBottom, f_curRight, a_entry, a_boxStart, a_boxW, a_boxH, a_boxB, a_posRow, a_posCol, a_grid, a_readList, a_seenToken, a_seenTop, a_seenLeft, a_seenBottom, a_seenRight, a_taskKind, a_taskTop, a_taskLeft, a_taskBottom, a_taskRight) (nI i) := by
  obtain ⟨h0, h4, h5⟩ := fo_op wf (by omega) hop
  have h14 := (wf i (by omega)).1
  have lp := fo_L_pos t (i - 1)
  have lf := fo_L_le wf (fo_f t i) (by omega)
  have ls := fo_L_le wf (i - 1) (by omega)
  obtain ⟨f1, f2, f3, f4, f5⟩ := ok (fo_f t i) (by omega)
  obtain ⟨s1, s2, s3, s4, s5⟩ := ok (i - 1) (by omega)
  have zf := fo_sz wf (fo_f t i) (by omega)
  have zs := fo_sz wf (i - 1) (by omega)
  have ci : (nI i).toNatClampNeg = i := nI_clamp (by omega)
  have cf : (nI (fo_f t i)).toNatClampNeg = fo_f t i := nI_clamp (by omega)
  have cs : (nI (i - 1)).toNatClampNeg = i - 1 := nI_clamp (by omega)
  have tf := (wf (fo_f t i) (by omega)).1
  have ts := (wf (i - 1) (by omega)).1
  have pa := fo_pA_le t i
  have pb := fo_pB_le t i
  have nf : fo_f t i ≠ i := by omega
  have ns : i - 1 ≠ i := by omega
  refine ⟨pk_in i 31 hi, nm_r (e' := nI (t i)) (by rw [ci, he]) (nm_r (xw_pr h0) ⟨pk_in (i - 1) 31 (by omega), nm_r (e' := nI (fo_f t i)) (by rw [cs, s2, show fo_f t i = i - 1 + 1 - fo_L t (i - 1) - 1 by omega]; exact xw_pr (by omega)) ?_⟩)⟩
  refine xw_outer (sec := 0) (by omega) f1 (by omega) (by omega) (by omega) f3 ?_
  refine xw_outer (sec := 1) (by omega) s1 (by omega) (by omega) (by omega) s3 ?_
  refine ⟨pk_in (fo_f t i) 31 (by omega), pk_in i 31 hi, nm_r (e' := upd a_boxStart i (nI (i + 1 - fo_L t i))) (by rw [ci, cf, f2, show fo_f t i + 1 - fo_L t (fo_f t i) = i + 1 - fo_L t i by omega]) ?_⟩
  refine pk_eq (t i) 13 (fun h => ?_) (fun h => pk_eq (t i) 14 (fun h2 => ?_) (fun h2 => ?_))
  · obtain ⟨q1, q2, q3, q4, q5⟩ := fo_D_13 h h0
    unfold fo_pA at q1
    unfold fo_pB at q2
    rw [q1, q2]
    refine xw_greater (by omega) (by omega) ?_
    refine ⟨pk_in i 31 hi, nm_r (e' := upd a_boxW i (nI (fo_W t i))) (by rw [ci, xw_p2, q3]; rfl) ?_⟩
    refine ⟨pk_in (fo_f t i) 31 (by omega), pk_in (i - 1) 31 (by omega), pk_in i 31 hi, nm_r (e' := upd a_boxH i (nI (fo_H t i))) (by rw [ci, cf, cs, f4, s4, nI_1, nI_add, q4]) ?_⟩
    exact ⟨pk_in (fo_f t i) 31 (by omega), pk_in i 31 hi, nm_r (e' := upd a_boxB i (nI (fo_B t i))) (by rw [ci, cf, pk_un nf, f4, q5]) hp⟩
  · obtain ⟨q2, q3, q4, q5⟩ := fo_D_14 h2 h0
    unfold fo_pB at q2
    unfold fo_pA at q3
    refine ⟨pk_in i 31 hi, nm_r (e' := upd a_boxW i (nI (fo_W t i))) (by rw [ci, nI_add, q2, q3]; rfl) ?_⟩
    refine ⟨pk_in (i - 1) 31 (by omega), pk_in (fo_f t i) 31 (by omega), pk_in i 31 hi, nm_r (e' := upd a_boxH i (nI (fo_H t i))) (by rw [ci, cf, cs, f4, s4, nI_add, q4]) ?_⟩
    exact ⟨pk_in (i - 1) 31 (by omega), pk_in (fo_f t i) 31 (by omega), pk_in i 31 hi, nm_r (e' := upd a_boxB i (nI (fo_B t i))) (by rw [ci, cf, cs, pk_un ns, s4, f5, nI_add, q5]) hp⟩
  · obtain ⟨q3, q4, q5⟩ := fo_D_c hop (by omega) h0
    unfold fo_pA fo_pB at q3
    have eb : ∀ h b, b < h → nI h - 1 - nI b = nI (h - 1 - b) := by
      intro h b hb
      rw [xw_pr (by omega), pk_sub (by omega)]
    refine ⟨pk_in (fo_f t i) 31 (by omega), pk_in (fo_f t i) 31 (by omega), nm_r (e' := nI (fo_H t (fo_f t i) - 1 - fo_B t (fo_f t i))) (by rw [cf, f4, f5, eb _ _ (by omega)]) ?_⟩
    refine ⟨pk_in (i - 1) 31 (by omega), pk_in (i - 1) 31 (by omega), nm_r (e' := nI (fo_H t (i - 1) - 1 - fo_B t (i - 1))) (by rw [cs, s4, s5, eb _ _ (by omega)]) ?_⟩
    refine ⟨pk_in i 31 hi, nm_r (e' := upd a_boxW i (nI (fo_W t i))) (by rw [ci, nI_1, nI_add, q3]) ?_⟩
    refine ⟨pk_in (fo_f t i) 31 (by omega), pk_in (i - 1) 31 (by omega), ?_⟩
    rw [cf, cs, f5, s5]
    refine xw_greater (by omega) (by omega) ?_
    refine ⟨pk_in i 31 hi, nm_r (e' := upd a_boxB i (nI (fo_B t i))) (by rw [ci, q5]) ?_⟩
    refine ⟨pk_in i 31 hi, ?_⟩
    refine xw_greater (by omega) (by omega) ?_
    exact ⟨pk_in i 31 hi, nm_r (e' := upd a_boxH i (nI (fo_H t i))) (by rw [ci, pk_us, nI_1, nI_add, q4, q5]) hp⟩
end
end
section
/-! the component: append -/
theorem en_ok_s {t : Nat → Nat} {n : Nat} {a_entry a_boxStart a_boxW a_boxH a_boxB : Nat → Int32} (ok : en_ok t n a_entry a_boxStart a_boxW a_boxH a_boxB) :
    en_ok t (n + 1) (upd a_entry n (nI (t n))) (upd a_boxStart n (nI (n + 1 - fo_L t n))) (upd a_boxW n (nI (fo_W t n))) (upd a_boxH n (nI (fo_H t n))) (upd a_boxB n (nI (fo_B t n))) := by
  intro j hj
  by_cases e : j = n
  · subst e
    exact ⟨pk_us, pk_us, pk_us, pk_us, pk_us⟩
  · rw [pk_un e, pk_un e, pk_un e, pk_un e, pk_un e]
    exact ok j (by omega)
theorem en_ok_ext {t t' : Nat → Nat} {n : Nat} (wf : fo_WF t n) (h : ∀ j, j < n → t j = t' j) {a_entry a_boxStart a_boxW a_boxH a_boxB : Nat → Int32} (ok : en_ok t n a_entry a_boxStart a_boxW a_boxH a_boxB) : en_ok t' n a_entry a_boxStart a_boxW a_boxH a_boxB := by
  have hc : ∀ j, j < n → fo_cl (t j) (t' j) := fun j hj => Or.inl (h j hj)
  intro j hj
  obtain ⟨a, b, c⟩ := fo_cl_D wf hc j hj
  rw [← h j hj, ← fo_cl_L hc j hj, ← a, ← b, ← c]
  exact ok j hj
theorem fo_opn_ext {t t' : Nat → Nat} : ∀ n, (∀ j, j < n → t j = t' j) → fo_opn t n = fo_opn t' n := by
  intro n
  induction n with
  | zero => intro h; rfl
  | succ n ih =>
    intro h
    rw [fo_opn, fo_opn, ih fun j hj => h j (by omega), h n (by omega)]
section
variable {f_rows f_cols f_room f_entryCount f_open f_readCount f_seenCount f_taskCount f_curTop f_curLeft f_curBottom f_curRight : Int32} {a_entry a_boxStart a_boxW a_boxH a_boxB a_posRow a_posCol a_grid a_readList a_seenToken a_seenTop a_seenLeft a_seenBottom a_seenRight a_taskKind a_taskTop a_taskLeft a_taskBottom a_taskRight : Nat → Int32}
theorem xw_append {post : SX → Prop} {t : Nat → Nat} {n : Nat} (wf : fo_WF t (n + 1)) (hn : n < 31) (ok : en_ok t n a_entry a_boxStart a_boxW a_boxH a_boxB)
    (hp : post (f_rows, f_cols, f_room, nI (n + 1), nI (fo_opn t (n + 1)), f_readCount, f_seenCount, f_taskCount, f_curTop, f_curLeft, f_curBottom, f_curRight, upd a_entry n (nI (t n)), upd a_boxStart n (nI (n + 1 - fo_L t n)), upd a_boxW n (nI (fo_W t n)), upd a_boxH n (nI (fo_H t n)), upd a_boxB n (nI (fo_B t n)), a_posRow, a_posCol, a_grid, a_readList, a_seenToken, a_seenTop, a_seenLeft, a_seenBottom, a_seenRight, a_taskKind, a_taskTop, a_taskLeft, a_taskBottom, a_taskRight)) : wpX_append post (f_rows, f_cols, f_room, nI n, nI (fo_opn t n), f_readCount, f_seenCount, f_taskCount, f_curTop, f_curLeft, f_curBottom, f_curRight, a_entry, a_boxStart, a_boxW, a_boxH, a_boxB, a_posRow, a_posCol, a_grid, a_readList, a_seenToken, a_seenTop, a_seenLeft, a_seenBottom, a_seenRight, a_taskKind, a_taskTop, a_taskLeft, a_taskBottom, a_taskRight) (nI (t n)) := by
  have h14 := (wf n (by omega)).1
  have cn : (nI n).toNatClampNeg = n := nI_clamp (by omega)
  unfold wpX_append
  refine pk_lt n 31 (fun _ => ?_) (fun h => absurd h (by omega))
  refine ⟨pk_in n 31 hn, nm_r (e' := upd a_entry n (nI (t n))) (by rw [cn]) ?_⟩
  refine pk_le 10 (t n) (fun h => ?_) (fun h => ?_)
  · refine xw_measure wf hn h pk_us ?_ ?_
    · intro j hj
      rw [pk_un (by omega)]
      exact ok j hj
    · have o := fo_opn_op wf (i := n) (by omega) h
      refine nm_r (e' := nI (fo_opn t (n + 1))) ?_ (nm_r (nI_1 n) hp)
      rw [xw_pr (by omega), fo_opn, if_neg (by omega)]
  · obtain ⟨a, b, c⟩ := fo_D_d h
    rw [fo_L_d h, a, b, c] at hp
    refine ⟨pk_in n 31 hn, nm_r (e' := upd a_boxStart n (nI (n + 1 - 1))) (by rw [cn]; rfl) ⟨pk_in n 31 hn, nm_r (e' := upd a_boxW n (nI 1)) (by rw [cn]; rfl) ⟨pk_in n 31 hn, nm_r (e' := upd a_boxH n (nI 1)) (by rw [cn]; rfl) ⟨pk_in n 31 hn, nm_r (e' := upd a_boxB n (nI 0)) (by rw [cn]; rfl) (nm_r (e' := nI (fo_opn t (n + 1))) ?_ (nm_r (nI_1 n) hp))⟩⟩⟩⟩
    rw [nI_1, fo_opn, if_pos h]
end
end
section
/-! the reference: brackets, the count of waiting subformulas, measuring -/
section
variable {f_rows f_cols f_room f_entryLen f_readingLen f_paintedLen f_top f_left f_workLen : Int32} {a_entry a_reading a_painted a_work a_len a_w a_h a_b a_first a_padA a_padB a_y a_x : Nat → Int32}
theorem yw_78 {post : Int32 → Prop} {op own sec z v : Nat} (h1 : op ≤ 14) (h2 : own ≤ 14) (hs : sec ≤ 1) (hz : z ≤ 1) (hv : v = if op = 14 then (if sec = 0 ∧ 10 ≤ own then 1 else 0) else z) (hp : post (nI v)) : wY_pad_78 post (nI op) (nI own) (nI sec) (nI z) f_rows f_cols f_room f_entryLen f_readingLen f_paintedLen f_top f_left f_workLen a_entry a_reading a_painted a_work a_len a_w a_h a_b a_first a_padA a_padB a_y a_x := by
  have P0 : v = 0 → post 0 := fun e => by rw [e] at hp; exact hp
  have P1 : v = 1 → post 1 := fun e => by rw [e] at hp; exact hp
  have A : ∀ q : Nat, q ≤ 1 → v = q → wY_pad_101 post (nI q) f_rows f_cols f_room f_entryLen f_readingLen f_paintedLen f_top f_left f_workLen a_entry a_reading a_painted a_work a_len a_w a_h a_b a_first a_padA a_padB a_y a_x := fun q hq e => pk_eq q 0 (fun z0 => P0 (by omega)) (fun z0 => P1 (by omega))
  refine pk_eq op 14 (fun o => pk_eq sec 0 (fun s0 => pk_lt own 10 (fun w => A 0 (by omega) (by grind)) (fun w => A 1 (by omega) (by grind))) (fun s0 => A 0 (by omega) (by grind))) (fun o => A z hz (by grind))
theorem yw_50 {post : Int32 → Prop} {op own sec sum z v : Nat} (h1 : op ≤ 14) (h2 : own ≤ 14) (hs : sec ≤ 1) (hu : sum ≤ 1) (hz : z ≤ 1) (hv : v = if op = 12 then (if sum = 1 ∨ (sec = 1 ∧ own = 12) then 1 else 0) else if op = 14 then (if sec = 0 ∧ 10 ≤ own then 1 else 0) else z) (hp : post (nI v)) : wY_pad_50 post (nI op) (nI own) (nI sec) (nI sum) (nI z) f_rows f_cols f_room f_entryLen f_readingLen f_paintedLen f_top f_left f_workLen a_entry a_reading a_painted a_work a_len a_w a_h a_b a_first a_padA a_padB a_y a_x := by
  refine pk_eq op 12 (fun o => pk_eq sum 0 (fun u0 => pk_eq sec 0 (fun s0 => ?_) (fun s0 => pk_eq own 12 (fun w => ?_) (fun w => ?_))) (fun u0 => ?_)) (fun o => ?_)
  · exact yw_78 (z := 0) h1 h2 hs (by omega) (by grind) hp
  · exact yw_78 (z := 1) h1 h2 hs (by omega) (by grind) hp
  · exact yw_78 (z := 0) h1 h2 hs (by omega) (by grind) hp
  · exact yw_78 (z := 1) h1 h2 hs (by omega) (by grind) hp
  · exact yw_78 (z := z) h1 h2 hs hz (by grind) hp
theorem yw_17 {post : Int32 → Prop} {op own sec sum : Nat} (h1 : op ≤ 14) (h2 : own ≤ 14) (hs : sec ≤ 1) (hu : sum = if own = 10 ∨ own = 11 then 1 else 0) (hp : post (nI (fo_pad op own sec))) : wY_pad_17 post (nI op) (nI own) (nI sec) (nI sum) f_rows f_cols f_room f_entryLen f_readingLen f_paintedLen f_top f_left f_workLen a_entry a_reading a_painted a_work a_len a_w a_h a_b a_first a_padA a_padB a_y a_x := by
  have hu1 : sum ≤ 1 := by rw [hu]; split <;> omega
  have K : (op = 10 ∨ op = 11) → wY_pad_34 post (nI op) (nI own) (nI sec) (nI sum) f_rows f_cols f_room f_entryLen f_readingLen f_paintedLen f_top f_left f_workLen a_entry a_reading a_painted a_work a_len a_w a_h a_b a_first a_padA a_padB a_y a_x := by
    intro o
    refine pk_eq sec 0 (fun s0 => ?_) (fun s0 => pk_eq sum 0 (fun u0 => ?_) (fun u0 => ?_))
    · exact yw_50 (z := 0) h1 h2 hs hu1 (by omega) (by unfold fo_pad; grind) hp
    · exact yw_50 (z := 0) h1 h2 hs hu1 (by omega) (by unfold fo_pad; grind) hp
    · exact yw_50 (z := 1) h1 h2 hs hu1 (by omega) (by unfold fo_pad; grind) hp
  refine pk_eq op 10 (fun o => K (Or.inl o)) (fun o => pk_eq op 11 (fun o' => K (Or.inr o')) (fun o' => ?_))
  exact yw_50 (z := 0) h1 h2 hs hu1 (by omega) (by unfold fo_pad; grind) hp
theorem yw_pad {post : Int32 → Prop} {op own sec : Nat} (h1 : op ≤ 14) (h2 : own ≤ 14) (hs : sec ≤ 1) (hp : post (nI (fo_pad op own sec))) : wpY_pad post (f_rows, f_cols, f_room, f_entryLen, f_readingLen, f_paintedLen, f_top, f_left, f_workLen, a_entry, a_reading, a_painted, a_work, a_len, a_w, a_h, a_b, a_first, a_padA, a_padB, a_y, a_x) (nI op) (nI own) (nI sec) := by
  refine pk_eq own 10 (fun h => ?_) (fun h => pk_eq own 11 (fun h' => ?_) (fun h' => ?_))
  · exact yw_17 (sum := 1) h1 h2 hs (by rw [if_pos (Or.inl h)]) hp
  · exact yw_17 (sum := 1) h1 h2 hs (by rw [if_pos (Or.inr h')]) hp
  · exact yw_17 (sum := 0) h1 h2 hs (by rw [if_neg (by omega)]) hp
theorem yw_greater {post : Int32 → Prop} {a b : Nat} (ha : a < 2 ^ 31) (hb : b < 2 ^ 31) (hp : post (nI (max a b))) : wpY_greater post (f_rows, f_cols, f_room, f_entryLen, f_readingLen, f_paintedLen, f_top, f_left, f_workLen, a_entry, a_reading, a_painted, a_work, a_len, a_w, a_h, a_b, a_first, a_padA, a_padB, a_y, a_x) (nI a) (nI b) := by
  refine pk_le a b (fun h => ?_) (fun h => ?_)
  · rw [show max a b = b by omega] at hp; exact hp
  · rw [show max a b = a by omega] at hp; exact hp
theorem yw_open_l {post : Int32 → Prop} {t : Nat → Nat} {n : Nat} (wf : fo_WF t n) (hn : n ≤ 31) (he : ∀ j, j < n → a_entry j = nI (t j)) (hp : post (nI (fo_opn t n))) : ∀ d i, i + d = n → wY_open_4 post f_rows f_cols f_room (nI n) f_readingLen f_paintedLen f_top f_left f_workLen a_entry a_reading a_painted a_work a_len a_w a_h a_b a_first a_padA a_padB a_y a_x (d + 1) (nI (fo_opn t i)) (nI i) := by
  intro d
  induction d with
  | zero =>
    intro i hi
    refine pk_le n i (fun _ => ?_) (fun h => absurd h (by omega))
    rw [show i = n by omega]; exact hp
  | succ d ih =>
    intro i hi
    refine pk_le n i (fun h => absurd h (by omega)) (fun _ => ?_)
    refine ⟨pk_in i 31 (by omega), ?_⟩
    rw [nI_clamp (by omega), he i (by omega)]
    have h14 := (wf i (by omega)).1
    refine pk_le 10 (t i) (fun h => ?_) (fun h => ?_)
    · have o := fo_opn_op wf (i := i) (by omega) h
      refine nm_r (e' := nI (fo_opn t (i + 1))) ?_ (nm_r (nI_1 i) (ih (i + 1) (by omega)))
      rw [show fo_opn t i = fo_opn t (i + 1) + 1 by rw [fo_opn, if_neg (by omega)]; omega, pk_m1]
    · refine nm_r (e' := nI (fo_opn t (i + 1))) ?_ (nm_r (nI_1 i) (ih (i + 1) (by omega)))
      rw [nI_1, fo_opn, if_pos h]
theorem yw_open {post : Int32 → Prop} {t : Nat → Nat} {n : Nat} (wf : fo_WF t n) (hn : n ≤ 31) (he : ∀ j, j < n → a_entry j = nI (t j)) (hp : post (nI (fo_opn t n))) : wpY_open post (f_rows, f_cols, f_room, nI n, f_readingLen, f_paintedLen, f_top, f_left, f_workLen, a_entry, a_reading, a_painted, a_work, a_len, a_w, a_h, a_b, a_first, a_padA, a_padB, a_y, a_x) := ⟨n + 1, yw_open_l wf hn he hp n 0 (by omega)⟩
end
/-- what measuring leaves -/
def ms_ok (t : Nat → Nat) (n : Nat) (a_work a_len a_w a_h a_b a_first a_padA a_padB : Nat → Int32) : Prop := ∀ j, j < n → (a_work j = nI (t j) ∧ a_len j = nI (fo_L t j) ∧ a_w j = nI (fo_W t j) ∧ a_h j = nI (fo_H t j) ∧ a_b j = nI (fo_B t j)) ∧ (10 ≤ t j → a_first j = nI (fo_f t j) ∧ a_padA j = nI (fo_pA t j) ∧ a_padB j = nI (fo_pB t j))
section
variable {f_rows f_cols f_room f_entryLen f_readingLen f_paintedLen f_top f_left f_workLen : Int32} {a_entry a_reading a_painted a_work a_len a_w a_h a_b a_first a_padA a_padB a_y a_x : Nat → Int32}
theorem yw_115 {post : SY → Prop} {J21 : Int32 → (Nat → Int32) → (Nat → Int32) → (Nat → Int32) → (Nat → Int32) → (Nat → Int32) → (Nat → Int32) → (Nat → Int32) → (Nat → Int32) → (Nat → Int32) → (Nat → Int32) → (Nat → Int32) → (Nat → Int32) → (Nat → Int32) → Prop} {x1 : Int32} {t : Nat → Nat} {i : Nat} (wf : fo_WF t (i + 1)) (hi : i < 31) (hop : 10 ≤ t i) (ok : ms_ok t i a_work a_len a_w a_h a_b a_first a_padA a_padB) (hw : a_work i = nI (t i))
    (J : ∀ le w h b fi pA pB, ms_ok t (i + 1) a_work le w h b fi pA pB → J21 (nI (i + 1)) a_entry a_reading a_painted a_work le w h b fi pA pB a_y a_x) : wY_measure_115 post J21 x1 (nI i) (nI (t i)) (nI (i - 1)) (nI (fo_f t i)) f_rows f_cols f_room f_entryLen f_readingLen f_paintedLen f_top f_left f_workLen a_entry a_reading a_painted a_work a_len a_w a_h a_b a_first a_padA a_padB a_y a_x := by
  obtain ⟨h0, h4, h5⟩ := fo_op wf (by omega) hop
  have h14 := (wf i (by omega)).1
  have lp := fo_L_pos t (i - 1)
  have lf := fo_L_le wf (fo_f t i) (by omega)
  have ls := fo_L_le wf (i - 1) (by omega)
  obtain ⟨⟨f1, f2, f3, f4, f5⟩, _⟩ := ok (fo_f t i) (by omega)
  obtain ⟨⟨s1, s2, s3, s4, s5⟩, _⟩ := ok (i - 1) (by omega)
  have zf := fo_sz wf (fo_f t i) (by omega)
  have zs := fo_sz wf (i - 1) (by omega)
  have ci : (nI i).toNatClampNeg = i := nI_clamp (by omega)
  have cf : (nI (fo_f t i)).toNatClampNeg = fo_f t i := nI_clamp (by omega)
  have cs : (nI (i - 1)).toNatClampNeg = i - 1 := nI_clamp (by omega)
  have tf := (wf (fo_f t i) (by omega)).1
  have ts := (wf (i - 1) (by omega)).1
  have pa := fo_pA_le t i
  have pb := fo_pB_le t i
  have nf : fo_f t i ≠ i := by omega
  have ns : i - 1 ≠ i := by omega
  have ni : vp_in (nI i) 31 := pk_in i 31 hi
  have nif : vp_in (nI (fo_f t i)) 31 := pk_in (fo_f t i) 31 (by omega)
  have nis : vp_in (nI (i - 1)) 31 := pk_in (i - 1) 31 (by omega)
  have K : ∀ w h b : Nat → Int32, (∀ j, j < i → w j = a_w j ∧ h j = a_h j ∧ b j = a_b j) → w i = nI (fo_W t i) → h i = nI (fo_H t i) → b i = nI (fo_B t i) →
      J21 (nI (i + 1)) a_entry a_reading a_painted a_work (upd a_len i (nI (fo_L t i))) w h b (upd a_first i (nI (fo_f t i))) (upd a_padA i (nI (fo_pA t i))) (upd a_padB i (nI (fo_pB t i))) a_y a_x := by
    intro w h b hj w1 w2 w3
    refine J _ _ _ _ _ _ _ ?_
    intro j hjj
    by_cases e : j = i
    · subst e
      exact ⟨⟨hw, pk_us, w1, w2, w3⟩, fun _ => ⟨pk_us, pk_us, pk_us⟩⟩
    · obtain ⟨u1, u2, u3⟩ := hj j (by omega)
      rw [pk_un e, pk_un e, pk_un e, pk_un e, u1, u2, u3]
      exact ok j (by omega)
  unfold wY_measure_115
  refine br_f (nI_pos (by omega)) ?_
  refine ⟨ni, nm_r (e' := upd a_first i (nI (fo_f t i))) (by rw [ci]) ?_⟩
  refine ⟨nif, nis, ni, nm_r (e' := upd a_len i (nI (fo_L t i))) (by rw [ci, cf, cs, f2, s2, show (1 : Int32) + nI (fo_L t (fo_f t i)) = nI (1 + fo_L t (fo_f t i)) from nI_add 1 _, nI_add, h5, show 1 + fo_L t (fo_f t i) + fo_L t (i - 1) = 1 + fo_L t (i - 1) + fo_L t (fo_f t i) by omega]) ?_⟩
  refine ⟨nif, ?_⟩
  rw [cf, f1]
  refine yw_pad (sec := 0) (by omega) (by omega) (by omega) ?_
  refine ⟨ni, nm_r (e' := upd a_padA i (nI (fo_pA t i))) (by rw [ci]; rfl) ?_⟩
  refine ⟨nis, ?_⟩
  rw [cs, s1]
  refine yw_pad (sec := 1) (by omega) (by omega) (by omega) ?_
  refine ⟨ni, nm_r (e' := upd a_padB i (nI (fo_pB t i))) (by rw [ci]; rfl) ?_⟩
  refine ⟨nif, ni, nm_r (e' := nI (fo_W t (fo_f t i) + 2 * fo_pA t i)) (by rw [ci, pk_us, f3, show (2 : Int32) * nI (fo_pA t i) = nI (2 * fo_pA t i) from pk_mul 2 _, nI_add]) ?_⟩
  refine ⟨nis, ni, nm_r (e' := nI (fo_W t (i - 1) + 2 * fo_pB t i)) (by rw [ci, pk_us, s3, show (2 : Int32) * nI (fo_pB t i) = nI (2 * fo_pB t i) from pk_mul 2 _, nI_add]) ?_⟩
  refine pk_eq (t i) 13 (fun h => ?_) (fun h => pk_eq (t i) 14 (fun h2 => ?_) (fun h2 => ?_))
  · obtain ⟨q1, q2, q3, q4, q5⟩ := fo_D_13 h h0
    refine yw_greater (by omega) (by omega) ?_
    refine ⟨ni, nm_r (e' := upd a_w i (nI (fo_W t i))) (by rw [ci, xw_p2, q3, q1, q2]; rfl) ?_⟩
    refine ⟨nif, nis, ni, nm_r (e' := upd a_h i (nI (fo_H t i))) (by rw [ci, f4, s4, nI_1, nI_add, q4]) ?_⟩
    refine ⟨nif, ni, nm_r (e' := upd a_b i (nI (fo_B t i))) (by rw [ci, pk_un nf, f4, q5]) (nm_r (nI_1 i) ?_)⟩
    exact K _ _ _ (fun j hj => ⟨pk_un (by omega), pk_un (by omega), pk_un (by omega)⟩) pk_us pk_us pk_us
  · obtain ⟨q2, q3, q4, q5⟩ := fo_D_14 h2 h0
    refine ⟨ni, nm_r (e' := upd a_w i (nI (fo_W t i))) (by rw [ci, nI_add, q2, q3]; rfl) ?_⟩
    refine ⟨nis, nif, ni, nm_r (e' := upd a_h i (nI (fo_H t i))) (by rw [ci, f4, s4, nI_add, q4]) ?_⟩
    refine ⟨nis, nif, ni, nm_r (e' := upd a_b i (nI (fo_B t i))) (by rw [ci, pk_un ns, s4, f5, nI_add, q5]) (nm_r (nI_1 i) ?_)⟩
    exact K _ _ _ (fun j hj => ⟨pk_un (by omega), pk_un (by omega), pk_un (by omega)⟩) pk_us pk_us pk_us
  · obtain ⟨q3, q4, q5⟩ := fo_D_c hop (by omega) h0
    have eb : ∀ h b, b < h → nI h - 1 - nI b = nI (h - 1 - b) := by
      intro h b hb
      rw [xw_pr (by omega), pk_sub (by omega)]
    refine ⟨ni, nm_r (e' := upd a_w i (nI (fo_W t i))) (by rw [ci, nI_1, nI_add, q3]) ?_⟩
    refine ⟨nif, nis, ?_⟩
    rw [f5, s5]
    refine yw_greater (by omega) (by omega) ?_
    refine ⟨ni, nm_r (e' := upd a_b i (nI (fo_B t i))) (by rw [ci, q5]) ?_⟩
    refine ⟨ni, nif, nif, nis, nis, ?_⟩
    rw [f4, s4, pk_un nf, pk_un ns, f5, s5, eb _ _ (by omega), eb _ _ (by omega)]
    refine yw_greater (by omega) (by omega) ?_
    refine ⟨ni, nm_r (e' := upd a_h i (nI (fo_H t i))) (by rw [ci, pk_us, nI_1, nI_add, q4, q5]) (nm_r (nI_1 i) ?_)⟩
    exact K _ _ _ (fun j hj => ⟨pk_un (by omega), pk_un (by omega), pk_un (by omega)⟩) pk_us pk_us pk_us
theorem yw_48 {post : SY → Prop} {J21 : Int32 → (Nat → Int32) → (Nat → Int32) → (Nat → Int32) → (Nat → Int32) → (Nat → Int32) → (Nat → Int32) → (Nat → Int32) → (Nat → Int32) → (Nat → Int32) → (Nat → Int32) → (Nat → Int32) → (Nat → Int32) → (Nat → Int32) → Prop} {x1 : Int32} {t : Nat → Nat} {i : Nat} (wf : fo_WF t (i + 1)) (hi : i < 31) (ok : ms_ok t i a_work a_len a_w a_h a_b a_first a_padA a_padB)
    (J : ∀ wo le w h b fi pA pB, ms_ok t (i + 1) wo le w h b fi pA pB → J21 (nI (i + 1)) a_entry a_reading a_painted wo le w h b fi pA pB a_y a_x) : wY_measure_48 post J21 x1 (nI i) (nI (t i)) f_rows f_cols f_room f_entryLen f_readingLen f_paintedLen f_top f_left f_workLen a_entry a_reading a_painted a_work a_len a_w a_h a_b a_first a_padA a_padB a_y a_x := by
  have ci : (nI i).toNatClampNeg = i := nI_clamp (by omega)
  have ni : vp_in (nI i) 31 := pk_in i 31 hi
  have h14 := (wf i (by omega)).1
  unfold wY_measure_48
  refine ⟨ni, nm_r (e' := upd a_work i (nI (t i))) (by rw [ci]) ⟨ni, nm_r (e' := upd a_len i (nI 1)) (by rw [ci]; rfl) ⟨ni, nm_r (e' := upd a_w i (nI 1)) (by rw [ci]; rfl) ⟨ni, nm_r (e' := upd a_h i (nI 1)) (by rw [ci]; rfl) ⟨ni, nm_r (e' := upd a_b i (nI 0)) (by rw [ci]; rfl) ?_⟩⟩⟩⟩⟩
  refine nm_e ?_
  refine pk_lt (t i) 10 (fun d => ?_) (fun d => ?_)
  · obtain ⟨a, b, c⟩ := fo_D_d d
    unfold wY_measure_115
    refine br_t (by decide) (nm_r (nI_1 i) ?_)
    refine J _ _ _ _ _ _ _ _ ?_
    intro j hj
    by_cases e : j = i
    · subst e
      rw [a, b, c, fo_L_d d]
      exact ⟨⟨pk_us, pk_us, pk_us, pk_us, pk_us⟩, fun z => absurd z (by omega)⟩
    · rw [pk_un e, pk_un e, pk_un e, pk_un e, pk_un e]
      exact ok j (by omega)
  · obtain ⟨h0, h4, h5⟩ := fo_op wf (by omega) d
    rw [xw_pr h0]
    refine br_f (nI_pos (by omega)) ⟨pk_in (i - 1) 31 (by omega), nm_r (e' := nI (fo_f t i)) ?_ ?_⟩
    · rw [nI_clamp (by omega), pk_un (by omega), (ok (i - 1) (by omega)).1.2.1, pk_sub (by omega)]
      exact congrArg nI (by omega)
    · refine yw_115 wf hi d ?_ pk_us ?_
      · intro j hj
        rw [pk_un (by omega), pk_un (by omega), pk_un (by omega), pk_un (by omega), pk_un (by omega)]
        exact ok j hj
      · intro le w h b fi pA pB hh
        exact J _ _ _ _ _ _ _ _ hh
theorem yw_meas_l {post : SY → Prop} {x1 : Int32} {t : Nat → Nat} {n : Nat} (wf : fo_WF t n) (hn : n ≤ 31) (hs : (x1 = 0 ∧ ∀ j, j < n → a_entry j = nI (t j)) ∨ (¬ x1 = 0 ∧ ∀ j, j < n → a_painted j = nI (t j)))
    (hp : ∀ wo le w h b fi pA pB, ms_ok t n wo le w h b fi pA pB → post (f_rows, f_cols, f_room, f_entryLen, f_readingLen, f_paintedLen, f_top, f_left, nI n, a_entry, a_reading, a_painted, wo, le, w, h, b, fi, pA, pB, a_y, a_x)) :
    ∀ d i wo le w h b fi pA pB, i + d = n → ms_ok t i wo le w h b fi pA pB → wY_measure_21 post x1 f_rows f_cols f_room f_entryLen f_readingLen f_paintedLen f_top f_left (nI n) (d + 1) (nI i) a_entry a_reading a_painted wo le w h b fi pA pB a_y a_x := by
  intro d
  induction d with
  | zero =>
    intro i wo le w h b fi pA pB hi ok
    refine pk_le n i (fun _ => ?_) (fun h => absurd h (by omega))
    rw [show i = n by omega] at ok; exact hp _ _ _ _ _ _ _ _ ok
  | succ d ih =>
    intro i wo le w h b fi pA pB hi ok
    refine pk_le n i (fun h => absurd h (by omega)) (fun _ => ?_)
    rcases hs with ⟨z, he⟩ | ⟨z, he⟩
    · refine br_t z ⟨pk_in i 31 (by omega), ?_⟩
      rw [nI_clamp (by omega), he i (by omega)]
      exact yw_48 (fo_WF_le wf (by omega)) (by omega) ok (fun wo le w h b fi pA pB hh => ih (i + 1) wo le w h b fi pA pB (by omega) hh)
    · refine br_f z ⟨pk_in i 31 (by omega), ?_⟩
      rw [nI_clamp (by omega), he i (by omega)]
      exact yw_48 (fo_WF_le wf (by omega)) (by omega) ok (fun wo le w h b fi pA pB hh => ih (i + 1) wo le w h b fi pA pB (by omega) hh)
theorem yw_meas0 {post : SY → Prop} {t : Nat → Nat} {n : Nat} (wf : fo_WF t n) (hn : n ≤ 31) (he : ∀ j, j < n → a_entry j = nI (t j))
    (hp : ∀ wo le w h b fi pA pB, ms_ok t n wo le w h b fi pA pB → post (f_rows, f_cols, f_room, nI n, f_readingLen, f_paintedLen, f_top, f_left, nI n, a_entry, a_reading, a_painted, wo, le, w, h, b, fi, pA, pB, a_y, a_x)) : wpY_measure post (f_rows, f_cols, f_room, nI n, f_readingLen, f_paintedLen, f_top, f_left, f_workLen, a_entry, a_reading, a_painted, a_work, a_len, a_w, a_h, a_b, a_first, a_padA, a_padB, a_y, a_x) 0 :=
  br_t rfl ⟨n + 1, yw_meas_l wf hn (Or.inl ⟨rfl, he⟩) hp n 0 _ _ _ _ _ _ _ _ (by omega) (fun j hj => absurd hj (by omega))⟩
theorem yw_meas1 {post : SY → Prop} {t : Nat → Nat} {n : Nat} (wf : fo_WF t n) (hn : n ≤ 31) (he : ∀ j, j < n → a_painted j = nI (t j))
    (hp : ∀ wo le w h b fi pA pB, ms_ok t n wo le w h b fi pA pB → post (f_rows, f_cols, f_room, f_entryLen, f_readingLen, nI n, f_top, f_left, nI n, a_entry, a_reading, a_painted, wo, le, w, h, b, fi, pA, pB, a_y, a_x)) : wpY_measure post (f_rows, f_cols, f_room, f_entryLen, f_readingLen, nI n, f_top, f_left, f_workLen, a_entry, a_reading, a_painted, a_work, a_len, a_w, a_h, a_b, a_first, a_padA, a_padB, a_y, a_x) 1 :=
  br_f (by decide) ⟨n + 1, yw_meas_l wf hn (Or.inr ⟨by decide, he⟩) hp n 0 _ _ _ _ _ _ _ _ (by omega) (fun j hj => absurd hj (by omega))⟩
end
end
section
/-! the reference: places of the boxes -/
theorem xw_d2 {a b : Nat} (h : b ≤ a) (ha : a < 2 ^ 31) : (nI a - nI b) / 2 = nI ((a - b) / 2) := by
  rw [pk_sub h]
  exact pk_div (d := 2) (by omega) (by omega) (by omega)
theorem xw_m2 (a : Nat) : 2 * nI a = nI (2 * a) := pk_mul 2 a
/-- right values stay right -/
def pl_mono (yy xx : Nat → Nat) (y x y' x' : Nat → Int32) : Prop := ∀ j, y j = nI (yy j) ∧ x j = nI (xx j) → y' j = nI (yy j) ∧ x' j = nI (xx j)
theorem pl_mono_r (yy xx : Nat → Nat) (y x : Nat → Int32) : pl_mono yy xx y x y x := fun _ h => h
theorem pl_mono_t {yy xx : Nat → Nat} {y x y' x' y'' x'' : Nat → Int32} (h : pl_mono yy xx y x y' x') (h2 : pl_mono yy xx y' x' y'' x'') : pl_mono yy xx y x y'' x'' := fun j q => h2 j (h j q)
theorem pl_upd (zz : Nat → Nat) (z : Nat → Int32) (k j : Nat) (h : z j = nI (zz j)) : upd z k (nI (zz k)) j = nI (zz j) := by
  by_cases e : j = k
  · rw [e, pk_us]
  · rw [pk_un e, h]
theorem pl_mono_u {yy xx : Nat → Nat} (y x : Nat → Int32) (a b c d : Nat) : pl_mono yy xx y x (upd (upd y a (nI (yy a))) b (nI (yy b))) (upd (upd x c (nI (xx c))) d (nI (xx d))) :=
  fun j h => ⟨pl_upd yy _ b j (pl_upd yy _ a j h.1), pl_upd xx _ d j (pl_upd xx _ c j h.2)⟩
section
variable {f_rows f_cols f_room f_entryLen f_readingLen f_paintedLen f_top f_left f_workLen : Int32} {a_entry a_reading a_painted a_work a_len a_w a_h a_b a_first a_padA a_padB : Nat → Int32}
theorem yw_pl_op {post : SY → Prop} {t yy xx : Nat → Nat} {n i k : Nat} {y x : Nat → Int32} (wf : fo_WF t n) (hn : n ≤ 31) (ms : ms_ok t n a_work a_len a_w a_h a_b a_first a_padA a_padB) (pl : fo_Pl t yy xx 0 n) (hi : i < n) (hop : 10 ≤ t i) (hy : y i = nI (yy i)) (hx : x i = nI (xx i))
    (K : ∀ y' x', pl_mono yy xx y x y' x' → y' (fo_f t i) = nI (yy (fo_f t i)) → x' (fo_f t i) = nI (xx (fo_f t i)) → y' (i - 1) = nI (yy (i - 1)) → x' (i - 1) = nI (xx (i - 1)) → wY_place_49 post f_rows f_cols f_room f_entryLen f_readingLen f_paintedLen f_top f_left f_workLen k (nI i + (-1)) a_entry a_reading a_painted a_work a_len a_w a_h a_b a_first a_padA a_padB y' x') :
    wY_place_49 post f_rows f_cols f_room f_entryLen f_readingLen f_paintedLen f_top f_left f_workLen (k + 1) (nI i) a_entry a_reading a_painted a_work a_len a_w a_h a_b a_first a_padA a_padB y x := by
  obtain ⟨h0, h4, h5⟩ := fo_op wf hi hop
  have h14 := (wf i hi).1
  have lp := fo_L_pos t (i - 1)
  have lq := fo_L_pos t (fo_f t i)
  have ll := fo_L_le wf i hi
  obtain ⟨⟨i1, i2, i3, i4, i5⟩, i6⟩ := ms i hi
  obtain ⟨i6, i7, i8⟩ := i6 hop
  obtain ⟨⟨f1, f2, f3, f4, f5⟩, _⟩ := ms (fo_f t i) (by omega)
  obtain ⟨⟨s1, s2, s3, s4, s5⟩, _⟩ := ms (i - 1) (by omega)
  obtain ⟨p1, p2, p3, p4⟩ := pl i (by omega) hi hop
  obtain ⟨gA1, gA2, gA3, gB1, gB2, gB3, gw1, gw2, _⟩ := fo_geo wf hi hop
  have zi := (fo_sz wf i hi).2.1
  have ci : (nI i).toNatClampNeg = i := nI_clamp (by omega)
  have cf : (nI (fo_f t i)).toNatClampNeg = fo_f t i := nI_clamp (by omega)
  have cs : (nI (i - 1)).toNatClampNeg = i - 1 := nI_clamp (by omega)
  have nf : i ≠ fo_f t i := by omega
  have ns : i ≠ i - 1 := by omega
  have nfs : fo_f t i ≠ i - 1 := by omega
  have ni : vp_in (nI i) 31 := pk_in i 31 (by omega)
  have nif : vp_in (nI (fo_f t i)) 31 := pk_in (fo_f t i) 31 (by omega)
  have nis : vp_in (nI (i - 1)) 31 := pk_in (i - 1) 31 (by omega)
  unfold wY_place_49
  refine br_f (nI_pos (by omega)) ⟨ni, ?_⟩
  rw [ci, i2]
  refine pk_le (fo_L t i) 1 (fun h => absurd h (by omega)) (fun _ => ?_)
  refine nm_r (xw_pr h0) ⟨ni, nm_r (e' := nI (fo_f t i)) i6 ⟨ni, ?_⟩⟩
  rw [i1]
  refine pk_eq (t i) 13 (fun h => ?_) (fun h => ⟨ni, pk_eq (t i) 14 (fun h2 => ?_) (fun h2 => ?_)⟩)
  · obtain ⟨g1, g2, g3, g4⟩ := fo_g13 h
    refine ⟨ni, nif, nm_r (e' := upd y (fo_f t i) (nI (yy (fo_f t i)))) (by rw [cf, hy, p1, g1]; rfl) ?_⟩
    refine ⟨ni, ni, nif, by decide, nif, nm_r (e' := upd x (fo_f t i) (nI (xx (fo_f t i)))) (by rw [cf, hx, i3, f3, xw_d2 (by omega) (by omega), nI_add, p2, g2]) ?_⟩
    refine ⟨ni, nif, nis, nm_r (e' := upd (upd y (fo_f t i) (nI (yy (fo_f t i)))) (i - 1) (nI (yy (i - 1)))) (by rw [cs, cf, pk_un nf, hy, f4, nI_add, nI_1, p3, g3]; rfl) ?_⟩
    refine ⟨ni, ni, nis, by decide, nis, nm_r (e' := upd (upd x (fo_f t i) (nI (xx (fo_f t i)))) (i - 1) (nI (xx (i - 1)))) (by rw [cs, pk_un nf, hx, i3, s3, xw_d2 (by omega) (by omega), nI_add, p4, g4]) (nm_e ?_)⟩
    exact K _ _ (pl_mono_u _ _ _ _ _ _) (by rw [pk_un nfs, pk_us]) (by rw [pk_un nfs, pk_us]) pk_us pk_us
  · obtain ⟨g1, g2, g3, g4⟩ := fo_g14 h2
    refine ⟨ni, nis, nm_r (e' := upd y (i - 1) (nI (yy (i - 1)))) (by rw [cs, hy, p3, g3]; rfl) ?_⟩
    refine ⟨ni, nif, ni, nis, nm_r (e' := upd x (i - 1) (nI (xx (i - 1)))) (by rw [cs, cf, hx, f3, i7, xw_m2, nI_add, nI_add, p4, g4, show xx i + fo_W t (fo_f t i) + 2 * fo_pA t i = xx i + (fo_W t (fo_f t i) + 2 * fo_pA t i) by omega]) ?_⟩
    refine ⟨ni, nis, nif, nm_r (e' := upd (upd y (i - 1) (nI (yy (i - 1)))) (fo_f t i) (nI (yy (fo_f t i)))) (by rw [cs, cf, pk_un ns, hy, s4, nI_add, p1, g1]) ?_⟩
    refine ⟨ni, ni, nif, nm_r (e' := upd (upd x (i - 1) (nI (xx (i - 1)))) (fo_f t i) (nI (xx (fo_f t i)))) (by rw [cf, pk_un ns, hx, i7, nI_add, p2, g2]) (nm_e ?_)⟩
    exact K _ _ (pl_mono_u _ _ _ _ _ _) pk_us pk_us (by rw [pk_un nfs.symm, pk_us]) (by rw [pk_un nfs.symm, pk_us])
  · obtain ⟨g1, g2, g3, g4⟩ := fo_gc (t := t) (i := i) (by omega)
    obtain ⟨q3, q4, q5⟩ := fo_D_c hop (by omega) h0
    refine ⟨ni, ni, nif, nif, nm_r (e' := upd y (fo_f t i) (nI (yy (fo_f t i)))) (by rw [cf, hy, i5, f5, nI_add, pk_sub (by omega), p1, g1, show yy i + fo_B t i - fo_B t (fo_f t i) = yy i + (fo_B t i - fo_B t (fo_f t i)) by omega]) ?_⟩
    refine ⟨ni, ni, nif, nm_r (e' := upd x (fo_f t i) (nI (xx (fo_f t i)))) (by rw [cf, hx, i7, nI_add, p2, g2]) ?_⟩
    refine ⟨ni, ni, nis, nis, nm_r (e' := upd (upd y (fo_f t i) (nI (yy (fo_f t i)))) (i - 1) (nI (yy (i - 1)))) (by rw [cs, pk_un nf, hy, i5, s5, nI_add, pk_sub (by omega), p3, g3, show yy i + fo_B t i - fo_B t (i - 1) = yy i + (fo_B t i - fo_B t (i - 1)) by omega]) ?_⟩
    refine ⟨ni, nif, ni, ni, nis, nm_r (e' := upd (upd x (fo_f t i) (nI (xx (fo_f t i)))) (i - 1) (nI (xx (i - 1)))) (by rw [cs, cf, pk_un nf, hx, f3, i7, i8, xw_m2, nI_add, nI_add, nI_1, nI_add, p4, g4, show xx i + fo_W t (fo_f t i) + 2 * fo_pA t i + 1 + fo_pB t i = xx i + (fo_W t (fo_f t i) + 2 * fo_pA t i + 1 + fo_pB t i) by omega]) (nm_e ?_)⟩
    exact K _ _ (pl_mono_u _ _ _ _ _ _) (by rw [pk_un nfs, pk_us]) (by rw [pk_un nfs, pk_us]) pk_us pk_us
theorem yw_pl_r {post : SY → Prop} {t yy xx : Nat → Nat} {n : Nat} (wf : fo_WF t n) (hn : n ≤ 31) (ms : ms_ok t n a_work a_len a_w a_h a_b a_first a_padA a_padB) (pl : fo_Pl t yy xx 0 n) : ∀ i, i < n → ∀ k y x, y i = nI (yy i) → x i = nI (xx i) →
    (∀ y' x', pl_mono yy xx y x y' x' → (∀ j, j ≤ i → i < j + fo_L t i → y' j = nI (yy j) ∧ x' j = nI (xx j)) → wY_place_49 post f_rows f_cols f_room f_entryLen f_readingLen f_paintedLen f_top f_left f_workLen k (nI (i + 1 - fo_L t i) + (-1)) a_entry a_reading a_painted a_work a_len a_w a_h a_b a_first a_padA a_padB y' x') →
    wY_place_49 post f_rows f_cols f_room f_entryLen f_readingLen f_paintedLen f_top f_left f_workLen (k + fo_L t i) (nI (i + 1) + (-1)) a_entry a_reading a_painted a_work a_len a_w a_h a_b a_first a_padA a_padB y x := by
  refine fo_ind wf ?_ ?_
  · intro i hi d k y x hy hx K
    rw [fo_L_d d, pk_m1]
    unfold wY_place_49
    refine br_f (nI_pos (by omega)) ⟨pk_in i 31 (by omega), ?_⟩
    rw [nI_clamp (by omega), (ms i hi).1.2.1, fo_L_d d]
    refine br_t (nI_le (a := 1) (b := 1) (by decide) (by decide)) (nm_e ?_)
    have := K y x (pl_mono_r _ _ _ _) (fun j j1 j2 => by rw [fo_L_d d] at j2; rw [show j = i by omega]; exact ⟨hy, hx⟩)
    rw [fo_L_d d] at this
    exact this
  · intro i hi h1 h2 h0 h4 h5 a b k y x hy hx K
    have lf := fo_L_le wf (fo_f t i) (by omega)
    rw [pk_m1, h5, show k + (1 + fo_L t (i - 1) + fo_L t (fo_f t i)) = k + fo_L t (fo_f t i) + fo_L t (i - 1) + 1 by omega]
    refine yw_pl_op wf hn ms pl hi h1 hy hx ?_
    intro y1 x1 m1 yf xf ys xs
    have b' := b (k + fo_L t (fo_f t i)) y1 x1 ys xs
    rw [show i - 1 + 1 = i by omega] at b'
    refine b' ?_
    intro y2 x2 m2 c2
    rw [show i - fo_L t (i - 1) = fo_f t i + 1 by omega]
    have q := m2 _ ⟨yf, xf⟩
    refine a k y2 x2 q.1 q.2 ?_
    intro y3 x3 m3 c3
    have K' := K y3 x3 (pl_mono_t m1 (pl_mono_t m2 m3)) ?_
    · rw [show i + 1 - fo_L t i = fo_f t i + 1 - fo_L t (fo_f t i) by omega] at K'
      exact K'
    · intro j j1 j2
      by_cases e : j = i
      · rw [e]; exact m3 _ (m2 _ (m1 _ ⟨hy, hx⟩))
      · by_cases z : j ≤ fo_f t i
        · exact c3 j z (by omega)
        · exact m3 _ (c2 j (by omega) (by omega))
end
section
variable {f_rows f_cols f_room f_entryLen f_readingLen f_paintedLen f_top f_left f_workLen : Int32} {a_entry a_reading a_painted a_work a_len a_w a_h a_b a_first a_padA a_padB a_y a_x : Nat → Int32}
theorem yw_place {post : SY → Prop} {t yy xx : Nat → Nat} {n top left : Nat} (wf : fo_WF t n) (hn : n ≤ 31) (h0 : 0 < n) (hL : fo_L t (n - 1) = n) (he : ∀ j, j < n → a_painted j = nI (t j)) (pl : fo_Pl t yy xx 0 n) (hy : yy (n - 1) = top) (hx : xx (n - 1) = left)
    (hp : ∀ wo le w h b fi pA pB y x, ms_ok t n wo le w h b fi pA pB → (∀ j, j < n → y j = nI (yy j) ∧ x j = nI (xx j)) → post (f_rows, f_cols, f_room, f_entryLen, f_readingLen, nI n, nI top, nI left, nI n, a_entry, a_reading, a_painted, wo, le, w, h, b, fi, pA, pB, y, x)) :
    wpY_place post (f_rows, f_cols, f_room, f_entryLen, f_readingLen, nI n, nI top, nI left, f_workLen, a_entry, a_reading, a_painted, a_work, a_len, a_w, a_h, a_b, a_first, a_padA, a_padB, a_y, a_x) := by
  unfold wpY_place
  refine yw_meas1 wf hn he ?_
  intro wo le w h b fi pA pB ms
  have c : (nI n - 1).toNatClampNeg = n - 1 := by rw [xw_pr h0, nI_clamp (by omega)]
  have v : vp_in (nI n - 1) 31 := by rw [xw_pr h0]; exact pk_in (n - 1) 31 (by omega)
  refine br_f (nI_nle h0 (by omega)) ⟨v, nm_r (e' := upd a_y (n - 1) (nI (yy (n - 1)))) (by rw [c, hy]) ⟨v, nm_r (e' := upd a_x (n - 1) (nI (xx (n - 1)))) (by rw [c, hx]) ?_⟩⟩
  refine nm_r (e' := nI (n - 1 + 1) + (-1)) (by rw [pk_m1, xw_pr h0]) ?_
  refine ⟨1 + fo_L t (n - 1), ?_⟩
  refine yw_pl_r wf hn ms pl (n - 1) (by omega) 1 _ _ pk_us pk_us ?_
  intro y x m q
  rw [show n - 1 + 1 - fo_L t (n - 1) = 0 by omega]
  refine br_t (by decide) ?_
  exact hp _ _ _ _ _ _ _ _ _ _ ms (fun j hj => q j (by omega) (by omega))
theorem yw_place0 {post : SY → Prop} (hp : ∀ wo le w h b fi pA pB, post (f_rows, f_cols, f_room, f_entryLen, f_readingLen, nI 0, f_top, f_left, nI 0, a_entry, a_reading, a_painted, wo, le, w, h, b, fi, pA, pB, a_y, a_x)) :
    wpY_place post (f_rows, f_cols, f_room, f_entryLen, f_readingLen, nI 0, f_top, f_left, f_workLen, a_entry, a_reading, a_painted, a_work, a_len, a_w, a_h, a_b, a_first, a_padA, a_padB, a_y, a_x) := by
  unfold wpY_place
  refine yw_meas1 (t := fun _ => 0) (fo_WF_0 _) (by omega) (fun j hj => absurd hj (by omega)) ?_
  intro wo le w h b fi pA pB ms
  refine br_t (by decide) (nm_e ⟨1, br_t (by decide) ?_⟩)
  exact hp _ _ _ _ _ _ _ _
end
end
section
/-! the reference: the innermost box, the character of a cell -/
/-- the picture on the grid -/
def fo_pg (t : Nat → Nat) (n top left r c : Nat) : Nat := if fo_in top left (fo_H t (n - 1)) (fo_W t (n - 1)) r c then fo_pic t (n - 1) (r - top) (c - left) else 32
section
variable {f_rows f_cols f_room f_entryLen f_readingLen f_paintedLen f_top f_left f_workLen : Int32} {a_entry a_reading a_painted a_work a_len a_w a_h a_b a_first a_padA a_padB a_y a_x : Nat → Int32}
theorem yw_inn_l {post : Int32 → SY → Prop} {t yy xx : Nat → Nat} {n r c : Nat} (wf : fo_WF t n) (hn : n ≤ 31) (hL : fo_L t (n - 1) = n) (hb : ∀ j, j < n → yy j + fo_H t j ≤ 1000 ∧ xx j + fo_W t j ≤ 1000) (hr : r < 1000) (hc : c < 1000)
    (pl : fo_Pl t yy xx 0 n) (hh : ∀ j, j < n → a_h j = nI (fo_H t j)) (hw : ∀ j, j < n → a_w j = nI (fo_W t j)) (hy : ∀ j, j < n → a_y j = nI (yy j) ∧ a_x j = nI (xx j))
    (hno : (∀ j, j < n → ¬ fo_at t yy xx j r c) → post (-1) (f_rows, f_cols, f_room, f_entryLen, f_readingLen, f_paintedLen, f_top, f_left, nI n, a_entry, a_reading, a_painted, a_work, a_len, a_w, a_h, a_b, a_first, a_padA, a_padB, a_y, a_x)) (hso : ∀ k, k < n → fo_at t yy xx k r c → (∀ j, j < k → ¬ fo_at t yy xx j r c) → post (nI k) (f_rows, f_cols, f_room, f_entryLen, f_readingLen, f_paintedLen, f_top, f_left, nI n, a_entry, a_reading, a_painted, a_work, a_len, a_w, a_h, a_b, a_first, a_padA, a_padB, a_y, a_x)) :
    ∀ d i, i + d = n → ((∀ j, j < i → ¬ fo_at t yy xx j r c) → wY_innermost_9 post (nI r) (nI c) f_rows f_cols f_room f_entryLen f_readingLen f_paintedLen f_top f_left (nI n) a_entry a_reading a_painted a_work a_len a_w a_h a_b a_first a_padA a_padB a_y a_x (d + 1) (-1) (nI i)) ∧ (∀ k, k < i → fo_at t yy xx k r c → (∀ j, j < k → ¬ fo_at t yy xx j r c) → wY_innermost_9 post (nI r) (nI c) f_rows f_cols f_room f_entryLen f_readingLen f_paintedLen f_top f_left (nI n) a_entry a_reading a_painted a_work a_len a_w a_h a_b a_first a_padA a_padB a_y a_x (d + 1) (nI k) (nI i)) := by
  intro d
  induction d with
  | zero =>
    intro i hi
    have e : i = n := by omega
    subst e
    exact ⟨fun h => pk_le i i (fun _ => hno h) (fun h => absurd h (by omega)), fun k k1 k2 k3 => pk_le i i (fun _ => hso k k1 k2 k3) (fun h => absurd h (by omega))⟩
  | succ d ih =>
    intro i hi
    obtain ⟨ih1, ih2⟩ := ih (i + 1) (by omega)
    have ni : vp_in (nI i) 31 := pk_in i 31 (by omega)
    have ci : (nI i).toNatClampNeg = i := nI_clamp (by omega)
    obtain ⟨b1, b2⟩ := hb i (by omega)
    obtain ⟨y1, y2⟩ := hy i (by omega)
    have h1 := hh i (by omega)
    have w1 := hw i (by omega)
    refine ⟨fun h => ?_, fun k k1 k2 k3 => ?_⟩
    · have N : ¬ fo_at t yy xx i r c → ∀ j, j < i + 1 → ¬ fo_at t yy xx j r c := by
        intro z j hj
        by_cases e : j = i
        · rw [e]; exact z
        · exact h j (by omega)
      refine pk_le n i (fun h => absurd h (by omega)) (fun _ => ⟨ni, ?_⟩)
      rw [ci, y1, y2, h1, w1, nI_add, nI_add]
      refine pk_lt r (yy i) (fun z => nm_r (nI_1 i) (ih1 (N (by omega)))) (fun z1 => ⟨ni, ni, ?_⟩)
      refine pk_le (yy i + fo_H t i) r (fun z => nm_r (nI_1 i) (ih1 (N (by omega)))) (fun z2 => ⟨ni, ?_⟩)
      refine pk_lt c (xx i) (fun z => nm_r (nI_1 i) (ih1 (N (by omega)))) (fun z3 => ⟨ni, ni, ?_⟩)
      refine pk_le (xx i + fo_W t i) c (fun z => nm_r (nI_1 i) (ih1 (N (by omega)))) (fun z4 => ?_)
      exact br_t (by decide) (nm_r (nI_1 i) (ih2 i (by omega) ⟨z1, z2, z3, z4⟩ h))
    · obtain ⟨c1, c2⟩ := hb k (by omega)
      have nk : vp_in (nI k) 31 := pk_in k 31 (by omega)
      have ck : (nI k).toNatClampNeg = k := nI_clamp (by omega)
      have G := ih2 k (by omega) k2 k3
      refine pk_le n i (fun h => absurd h (by omega)) (fun _ => ⟨ni, ?_⟩)
      rw [ci, y1, y2, h1, w1, nI_add, nI_add]
      refine pk_lt r (yy i) (fun z => nm_r (nI_1 i) G) (fun z1 => ⟨ni, ni, ?_⟩)
      refine pk_le (yy i + fo_H t i) r (fun z => nm_r (nI_1 i) G) (fun z2 => ⟨ni, ?_⟩)
      refine pk_lt c (xx i) (fun z => nm_r (nI_1 i) G) (fun z3 => ⟨ni, ni, ?_⟩)
      refine pk_le (xx i + fo_W t i) c (fun z => nm_r (nI_1 i) G) (fun z4 => ?_)
      refine br_f (nI_pos (by omega)) ⟨ni, ni, nk, nk, ?_⟩
      rw [ck, hh k (by omega), hw k (by omega), pk_mul, pk_mul]
      have q := fo_chain wf (r := r) (c := c) (n - 1) (by omega) (fo_Pl_sub pl (by omega) (by omega)) k i (by omega) k1 (by omega) k2 ⟨z1, z2, z3, z4⟩
      have m1 : fo_W t k * fo_H t k ≤ fo_W t i * fo_H t i := Nat.mul_le_mul (by omega) (by omega)
      have m2 : fo_W t i * fo_H t i ≤ 1000 * 1000 := Nat.mul_le_mul (by omega) (by omega)
      exact br_t (nI_le m1 (by omega)) (nm_r (nI_1 i) G)
theorem yw_inn {post : Int32 → SY → Prop} {t yy xx : Nat → Nat} {n top left r c : Nat} (wf : fo_WF t n) (hn : n ≤ 31) (h0 : 0 < n) (hL : fo_L t (n - 1) = n) (he : ∀ j, j < n → a_painted j = nI (t j)) (pl : fo_Pl t yy xx 0 n) (hy : yy (n - 1) = top) (hx : xx (n - 1) = left) (hb : ∀ j, j < n → yy j + fo_H t j ≤ 1000 ∧ xx j + fo_W t j ≤ 1000) (hr : r < 1000) (hc : c < 1000)
    (hno : (∀ j, j < n → ¬ fo_at t yy xx j r c) → ∀ wo le w h b fi pA pB y x, post (-1) (f_rows, f_cols, f_room, f_entryLen, f_readingLen, nI n, nI top, nI left, nI n, a_entry, a_reading, a_painted, wo, le, w, h, b, fi, pA, pB, y, x))
    (hso : ∀ k, k < n → fo_at t yy xx k r c → (∀ j, j < k → ¬ fo_at t yy xx j r c) → ∀ wo le w h b fi pA pB y x, ms_ok t n wo le w h b fi pA pB → (∀ j, j < n → y j = nI (yy j) ∧ x j = nI (xx j)) → post (nI k) (f_rows, f_cols, f_room, f_entryLen, f_readingLen, nI n, nI top, nI left, nI n, a_entry, a_reading, a_painted, wo, le, w, h, b, fi, pA, pB, y, x)) :
    wpY_innermost post (f_rows, f_cols, f_room, f_entryLen, f_readingLen, nI n, nI top, nI left, f_workLen, a_entry, a_reading, a_painted, a_work, a_len, a_w, a_h, a_b, a_first, a_padA, a_padB, a_y, a_x) (nI r) (nI c) := by
  unfold wpY_innermost
  refine yw_place wf hn h0 hL he pl hy hx ?_
  intro wo le w h b fi pA pB y x ms q
  refine ⟨n + 1, (yw_inn_l wf hn hL hb hr hc pl (fun j hj => (ms j hj).1.2.2.2.1) (fun j hj => (ms j hj).1.2.2.1) q ?_ ?_ n 0 (by omega)).1 (fun j hj => absurd hj (by omega))⟩
  · intro z; exact hno z _ _ _ _ _ _ _ _ _ _
  · intro k k1 k2 k3; exact hso k k1 k2 k3 _ _ _ _ _ _ _ _ _ _ ms q
theorem yw_inn0 {post : Int32 → SY → Prop} {r c : Int32} (hp : ∀ wl wo le w h b fi pA pB y x, post (-1) (f_rows, f_cols, f_room, f_entryLen, f_readingLen, nI 0, f_top, f_left, wl, a_entry, a_reading, a_painted, wo, le, w, h, b, fi, pA, pB, y, x)) :
    wpY_innermost post (f_rows, f_cols, f_room, f_entryLen, f_readingLen, nI 0, f_top, f_left, f_workLen, a_entry, a_reading, a_painted, a_work, a_len, a_w, a_h, a_b, a_first, a_padA, a_padB, a_y, a_x) r c := by
  unfold wpY_innermost
  refine yw_place0 ?_
  intro wo le w h b fi pA pB
  exact ⟨1, br_t (by decide) (hp _ _ _ _ _ _ _ _ _ _ _)⟩
/-- a bracket around box k -/
theorem yw_bracket {post : Int32 → Prop} {k r c y x h w : Nat} (hk : k < 31) (h1 : 1 ≤ x) (hb1 : y + h < 2000) (hb2 : x + w < 2000) (hr : r < 2000) (hc : c < 2000) (ey : a_y k = nI y) (ex : a_x k = nI x) (eh : a_h k = nI h) (ew : a_w k = nI w)
    (hp : post (nI (if y ≤ r ∧ r < y + h then (if c + 1 = x then 40 else if c = x + w then 41 else 32) else 32))) : wpY_bracket post (f_rows, f_cols, f_room, f_entryLen, f_readingLen, f_paintedLen, f_top, f_left, f_workLen, a_entry, a_reading, a_painted, a_work, a_len, a_w, a_h, a_b, a_first, a_padA, a_padB, a_y, a_x) (nI k) (nI r) (nI c) := by
  have nk : vp_in (nI k) 31 := pk_in k 31 hk
  unfold wpY_bracket
  refine ⟨nk, ?_⟩
  rw [nI_clamp (by omega), ey, ex, eh, ew, nI_add, nI_add, xw_pr h1]
  refine pk_lt r y (fun z => ?_) (fun z1 => ⟨nk, nk, pk_lt r (y + h) (fun z2 => ⟨nk, pk_eq c (x - 1) (fun z3 => ?_) (fun z3 => ⟨nk, nk, pk_eq c (x + w) (fun z4 => ?_) (fun z4 => ?_)⟩)⟩) (fun z2 => ?_)⟩)
  · rw [if_neg (by omega)] at hp; exact hp
  · rw [if_pos (by omega), if_pos (by omega)] at hp; exact hp
  · rw [if_pos (by omega), if_neg (by omega), if_pos (by omega)] at hp; exact hp
  · rw [if_pos (by omega), if_neg (by omega), if_neg (by omega)] at hp; exact hp
  · rw [if_neg (by omega)] at hp; exact hp
theorem yw_outside {post : Int32 → Prop} {rows cols r c : Nat} (h1 : rows < 2000) (h2 : cols < 2000) (hr : r < rows) (hc : c < cols) (hp : post 0) : wpY_outside post (nI rows, nI cols, f_room, f_entryLen, f_readingLen, f_paintedLen, f_top, f_left, f_workLen, a_entry, a_reading, a_painted, a_work, a_len, a_w, a_h, a_b, a_first, a_padA, a_padB, a_y, a_x) (nI r) (nI c) :=
  br_f (nI_pos (by omega)) (br_f (nI_ge hr (by omega)) (br_f (nI_pos (by omega)) (br_t (nI_lt hc (by omega)) hp)))
theorem yw_outside1 {post : Int32 → Prop} {rows cols : Nat} {p q : Int32} (h1 : rows < 2000) (h2 : cols < 2000) (h : ¬ ∃ r c : Nat, r < rows ∧ c < cols ∧ p = nI r ∧ q = nI c) (hp : post 1) : wpY_outside post (nI rows, nI cols, f_room, f_entryLen, f_readingLen, f_paintedLen, f_top, f_left, f_workLen, a_entry, a_reading, a_painted, a_work, a_len, a_w, a_h, a_b, a_first, a_padA, a_padB, a_y, a_x) p q := by
  refine br_c (fun _ => hp) (fun a => br_c (fun _ => hp) (fun b => br_c (fun _ => hp) (fun c => br_f ?_ hp)))
  intro d
  obtain ⟨r, hr, er⟩ := nI_of a
  obtain ⟨s, hs, es⟩ := nI_of c
  subst er es
  rw [nI_leI (by omega) hr] at b
  rw [nI_ltI hs (by omega)] at d
  exact h ⟨r, s, by omega, d, rfl, rfl⟩
/-- the character of the innermost box -/
theorem yw_193 {post : Int32 → SY → Prop} {k s r c y x h w pB v : Nat} (hk : k < 31) (hs : s < 31) (hpB : pB ≤ 1) (h1 : pB = 1 → 1 ≤ x) (hb1 : y + h < 2000) (hb2 : x + w < 2000) (hr : r < 2000) (hc : c < 2000) (hv : v < 2000) (ep : a_padB k = nI pB) (ey : a_y s = nI y) (ex : a_x s = nI x) (eh : a_h s = nI h) (ew : a_w s = nI w)
    (hp : post (nI (if v = 32 ∧ pB = 1 then (if y ≤ r ∧ r < y + h then (if c + 1 = x then 40 else if c = x + w then 41 else 32) else 32) else v)) (f_rows, f_cols, f_room, f_entryLen, f_readingLen, f_paintedLen, f_top, f_left, f_workLen, a_entry, a_reading, a_painted, a_work, a_len, a_w, a_h, a_b, a_first, a_padA, a_padB, a_y, a_x)) : wY_cell_193 post (nI r) (nI c) (nI k) (nI s) (nI v) f_rows f_cols f_room f_entryLen f_readingLen f_paintedLen f_top f_left f_workLen a_entry a_reading a_painted a_work a_len a_w a_h a_b a_first a_padA a_padB a_y a_x := by
  refine pk_eq v 32 (fun z => ⟨pk_in k 31 hk, ?_⟩) (fun z => ?_)
  · rw [nI_clamp (by omega), ep]
    refine pk_eq pB 1 (fun z2 => ?_) (fun z2 => ?_)
    · rw [if_pos ⟨z, z2⟩] at hp
      exact yw_bracket hs (h1 z2) hb1 hb2 hr hc ey ex eh ew hp
    · rw [if_neg (fun q => z2 q.2)] at hp; exact hp
  · rw [if_neg (fun q => z q.1)] at hp; exact hp
theorem yw_169 {post : Int32 → SY → Prop} {k s f r c y x h w pB y' x' h' w' pA : Nat} (hk : k < 31) (hs : s < 31) (hf : f < 31) (hpB : pB ≤ 1) (hpA : pA ≤ 1) (h1 : pB = 1 → 1 ≤ x) (h1' : pA = 1 → 1 ≤ x') (hb1 : y + h < 2000) (hb2 : x + w < 2000) (hb1' : y' + h' < 2000) (hb2' : x' + w' < 2000) (hr : r < 2000) (hc : c < 2000) (ep : a_padB k = nI pB) (ep' : a_padA k = nI pA) (ey : a_y s = nI y) (ex : a_x s = nI x) (eh : a_h s = nI h) (ew : a_w s = nI w)
    (ey' : a_y f = nI y') (ex' : a_x f = nI x') (eh' : a_h f = nI h') (ew' : a_w f = nI w')
    (hp : ∀ v, (v = if pA = 1 then (if y' ≤ r ∧ r < y' + h' then (if c + 1 = x' then 40 else if c = x' + w' then 41 else 32) else 32) else 32) → post (nI (if v = 32 ∧ pB = 1 then (if y ≤ r ∧ r < y + h then (if c + 1 = x then 40 else if c = x + w then 41 else 32) else 32) else v)) (f_rows, f_cols, f_room, f_entryLen, f_readingLen, f_paintedLen, f_top, f_left, f_workLen, a_entry, a_reading, a_painted, a_work, a_len, a_w, a_h, a_b, a_first, a_padA, a_padB, a_y, a_x)) : wY_cell_169 post (nI r) (nI c) (nI k) (nI s) (nI f) f_rows f_cols f_room f_entryLen f_readingLen f_paintedLen f_top f_left f_workLen a_entry a_reading a_painted a_work a_len a_w a_h a_b a_first a_padA a_padB a_y a_x := by
  refine ⟨pk_in k 31 hk, ?_⟩
  rw [nI_clamp (by omega), ep']
  refine pk_eq pA 1 (fun z => ?_) (fun z => ?_)
  · refine yw_bracket hf (h1' z) hb1' hb2' hr hc ey' ex' eh' ew' ?_
    refine yw_193 hk hs hpB h1 hb1 hb2 hr hc ?_ ep ey ex eh ew (hp _ ?_)
    · split
      · split
        · omega
        · split <;> omega
      · omega
    · rw [if_pos z]
  · refine yw_193 (v := 32) hk hs hpB h1 hb1 hb2 hr hc (by omega) ep ey ex eh ew (hp 32 ?_)
    rw [if_neg z]
end
end
section
/-! the reference: cell -/
theorem fo_pg_none {t yy xx : Nat → Nat} {n top left r c : Nat} (hy : yy (n - 1) = top) (hx : xx (n - 1) = left) (h : ¬ fo_at t yy xx (n - 1) r c) : fo_pg t n top left r c = 32 := by
  unfold fo_pg
  rw [← hy, ← hx]
  exact if_neg h
theorem fo_pg_own {t yy xx : Nat → Nat} {n top left r c k : Nat} (wf : fo_WF t n) (h0 : 0 < n) (hL : fo_L t (n - 1) = n) (pl : fo_Pl t yy xx 0 n) (hy : yy (n - 1) = top) (hx : xx (n - 1) = left) (hk : k < n) (hc : fo_at t yy xx k r c) (hl : ∀ j, j < k → ¬ fo_at t yy xx j r c) : fo_Own t yy xx k r c ∧ fo_pg t n top left r c = fo_chr t yy xx k r c := by
  have pl' : fo_Pl t yy xx (n - 1 + 1 - fo_L t (n - 1)) (n - 1 + 1) := fo_Pl_sub pl (by omega) (by omega)
  have ii := fo_inside wf (n - 1) (by omega) pl' k (by omega) (by omega)
  have hr : fo_at t yy xx (n - 1) r c := by omega
  obtain ⟨k', k1, k2, k3, k4⟩ := fo_least wf (n - 1) (by omega) pl' hr
  have e : k' = k := by
    by_cases q : k < k'
    · exact absurd hc (k4 k (by omega) q)
    · by_cases q2 : k' < k
      · exact absurd k3.1 (hl k' q2)
      · omega
  rw [e] at k3
  refine ⟨k3, ?_⟩
  have lk := fo_L_le wf k hk
  have nb := fo_nest wf (n - 1) (by omega) k (by omega) (by omega)
  rw [← fo_chr_pic wf hk (fo_Pl_sub pl (by omega) (by omega)) k3, ← fo_restr wf (n - 1) (by omega) pl' k (by omega) (by omega) hc, hy, hx]
  unfold fo_pg
  rw [← hy, ← hx]
  exact if_pos hr
/-- the brackets' part of an operator's own characters, by places on the grid -/
theorem fo_own_v {t yy xx : Nat → Nat} {n k r c v : Nat} (wf : fo_WF t n) (hk : k < n) (hop : 10 ≤ t k) (h13 : t k ≠ 13) (pl : fo_Pl t yy xx 0 n) (hc : fo_at t yy xx k r c) (hs : ¬ (t k ≠ 14 ∧ r = yy k + fo_B t k ∧ c + fo_pB t k + 1 = xx (k - 1)))
    (hv : v = if fo_pA t k = 1 then (if yy (fo_f t k) ≤ r ∧ r < yy (fo_f t k) + fo_H t (fo_f t k) then (if c + 1 = xx (fo_f t k) then 40 else if c = xx (fo_f t k) + fo_W t (fo_f t k) then 41 else 32) else 32) else 32) :
    fo_own t k (r - yy k) (c - xx k) = if v = 32 ∧ fo_pB t k = 1 then (if yy (k - 1) ≤ r ∧ r < yy (k - 1) + fo_H t (k - 1) then (if c + 1 = xx (k - 1) then 40 else if c = xx (k - 1) + fo_W t (k - 1) then 41 else 32) else 32) else v := by
  obtain ⟨p1, p2, p3, p4⟩ := pl k (by omega) hk hop
  have ef : (fo_fy t k ≤ r - yy k ∧ r - yy k < fo_fy t k + fo_H t (fo_f t k)) ↔ (yy (fo_f t k) ≤ r ∧ r < yy (fo_f t k) + fo_H t (fo_f t k)) := by omega
  have es : (fo_sy t k ≤ r - yy k ∧ r - yy k < fo_sy t k + fo_H t (k - 1)) ↔ (yy (k - 1) ≤ r ∧ r < yy (k - 1) + fo_H t (k - 1)) := by omega
  have e1 : c - xx k + 1 = fo_fx t k ↔ c + 1 = xx (fo_f t k) := by omega
  have e2 : c - xx k = fo_fx t k + fo_W t (fo_f t k) ↔ c = xx (fo_f t k) + fo_W t (fo_f t k) := by omega
  have e3 : c - xx k + 1 = fo_sx t k ↔ c + 1 = xx (k - 1) := by omega
  have e4 : c - xx k = fo_sx t k + fo_W t (k - 1) ↔ c = xx (k - 1) + fo_W t (k - 1) := by omega
  have e5 : ¬ (t k ≠ 14 ∧ r - yy k = fo_B t k ∧ c - xx k + fo_pB t k + 1 = fo_sx t k) := by omega
  unfold fo_own
  rw [if_neg h13, if_neg e5]
  clear hs e5 p1 p2 p3 p4 hc
  subst hv
  by_cases a1 : yy (fo_f t k) ≤ r ∧ r < yy (fo_f t k) + fo_H t (fo_f t k)
  · have a1' := ef.mpr a1
    by_cases b1 : yy (k - 1) ≤ r ∧ r < yy (k - 1) + fo_H t (k - 1)
    · have b1' := es.mpr b1
      simp only [a1.1, a1.2, a1'.1, a1'.2, b1.1, b1.2, b1'.1, b1'.2, e1, e2, e3, e4, true_and, and_self, if_true]
      grind
    · have b1' := fun q => b1 (es.mp q)
      rw [if_neg (c := fo_pB t k = 1 ∧ _ ∧ _ ∧ c - xx k + 1 = _) (fun q => b1' ⟨q.2.1, q.2.2.1⟩), if_neg (c := fo_pB t k = 1 ∧ _ ∧ _ ∧ c - xx k = _) (fun q => b1' ⟨q.2.1, q.2.2.1⟩), if_neg b1]
      simp only [a1.1, a1.2, a1'.1, a1'.2, e1, e2, true_and, and_self, if_true]
      grind
  · have a1' := fun q => a1 (ef.mp q)
    rw [if_neg (c := fo_pA t k = 1 ∧ _ ∧ _ ∧ c - xx k + 1 = _) (fun q => a1' ⟨q.2.1, q.2.2.1⟩), if_neg (c := fo_pA t k = 1 ∧ _ ∧ _ ∧ c - xx k = _) (fun q => a1' ⟨q.2.1, q.2.2.1⟩), if_neg a1]
    by_cases b1 : yy (k - 1) ≤ r ∧ r < yy (k - 1) + fo_H t (k - 1)
    · have b1' := es.mpr b1
      simp only [b1.1, b1.2, b1'.1, b1'.2, e3, e4, true_and, and_self, if_true]
      grind
    · have b1' := fun q => b1 (es.mp q)
      rw [if_neg (c := fo_pB t k = 1 ∧ _ ∧ _ ∧ c - xx k + 1 = _) (fun q => b1' ⟨q.2.1, q.2.2.1⟩), if_neg (c := fo_pB t k = 1 ∧ _ ∧ _ ∧ c - xx k = _) (fun q => b1' ⟨q.2.1, q.2.2.1⟩), if_neg b1]
      grind
/-- the places of a painted formula -/
theorem fo_places {t : Nat → Nat} {n top left rows cols : Nat} (wf : fo_WF t n) (h0 : 0 < n) (hL : fo_L t (n - 1) = n) (hr : top + fo_H t (n - 1) ≤ rows) (hc : left + fo_W t (n - 1) ≤ cols) :
    ∃ yy xx, yy (n - 1) = top ∧ xx (n - 1) = left ∧ fo_Pl t yy xx 0 n ∧ ∀ j, j < n → yy j + fo_H t j ≤ rows ∧ xx j + fo_W t j ≤ cols := by
  obtain ⟨yy, xx, a, b, c⟩ := fo_pl_ex wf (n - 1) (by omega) top left
  refine ⟨yy, xx, a, b, fo_Pl_sub c (by omega) (by omega), fun j hj => ?_⟩
  have ii := fo_inside wf (n - 1) (by omega) c j (by omega) (by omega)
  omega
section
variable {f_rows f_cols f_room f_entryLen f_readingLen f_paintedLen f_top f_left f_workLen : Int32} {a_entry a_reading a_painted a_work a_len a_w a_h a_b a_first a_padA a_padB a_y a_x : Nat → Int32}
theorem yw_chr {post : Int32 → SY → Prop} {t yy xx : Nat → Nat} {n k r c : Nat} (wf : fo_WF t n) (hn : n ≤ 31) (pl : fo_Pl t yy xx 0 n) (hb : ∀ j, j < n → yy j + fo_H t j ≤ 1000 ∧ xx j + fo_W t j ≤ 1000) (hr : r < 1000) (hc : c < 1000) (hk : k < n) (own : fo_Own t yy xx k r c) (ms : ms_ok t n a_work a_len a_w a_h a_b a_first a_padA a_padB) (hy : ∀ j, j < n → a_y j = nI (yy j) ∧ a_x j = nI (xx j))
    (hop : 10 ≤ t k) (hp : post (nI (fo_chr t yy xx k r c)) (f_rows, f_cols, f_room, f_entryLen, f_readingLen, f_paintedLen, f_top, f_left, f_workLen, a_entry, a_reading, a_painted, a_work, a_len, a_w, a_h, a_b, a_first, a_padA, a_padB, a_y, a_x)) :
    ((1 ≤ nI k → (∀ x5 : Int32, x5 = nI k - 1 → (vp_in (nI k) 31 ∧ ∀ x6 : Int32, x6 = a_first (nI k).toNatClampNeg → (((nI (t k) = 13 → (vp_in (nI k) 31 ∧ (vp_in x6 31 ∧ (((nI r = ((a_y (nI k).toNatClampNeg) + (a_h x6.toNatClampNeg)) → (post 95 (f_rows, f_cols, f_room, f_entryLen, f_readingLen, f_paintedLen, f_top, f_left, f_workLen, a_entry, a_reading, a_painted, a_work, a_len, a_w, a_h, a_b, a_first, a_padA, a_padB, a_y, a_x))) ∧ (¬ nI r = ((a_y (nI k).toNatClampNeg) + (a_h x6.toNatClampNeg)) → (post 32 (f_rows, f_cols, f_room, f_entryLen, f_readingLen, f_paintedLen, f_top, f_left, f_workLen, a_entry, a_reading, a_painted, a_work, a_len, a_w, a_h, a_b, a_first, a_padA, a_padB, a_y, a_x)))))))) ∧ (¬ nI (t k) = 13 → (((nI (t k) = 14 → (wY_cell_169 post (nI r) (nI c) (nI k) x5 x6 f_rows f_cols f_room f_entryLen f_readingLen f_paintedLen f_top f_left f_workLen a_entry a_reading a_painted a_work a_len a_w a_h a_b a_first a_padA a_padB a_y a_x)) ∧ (¬ nI (t k) = 14 → (vp_in (nI k) 31 ∧ (vp_in (nI k) 31 ∧ (((nI r = ((a_y (nI k).toNatClampNeg) + (a_b (nI k).toNatClampNeg)) → (vp_in x5 31 ∧ (vp_in (nI k) 31 ∧ (((nI c = (((a_x x5.toNatClampNeg) - (a_padB (nI k).toNatClampNeg)) - 1) → (((nI (t k) = 10 → (post 43 (f_rows, f_cols, f_room, f_entryLen, f_readingLen, f_paintedLen, f_top, f_left, f_workLen, a_entry, a_reading, a_painted, a_work, a_len, a_w, a_h, a_b, a_first, a_padA, a_padB, a_y, a_x))) ∧ (¬ nI (t k) = 10 → (((nI (t k) = 11 → (post 45 (f_rows, f_cols, f_room, f_entryLen, f_readingLen, f_paintedLen, f_top, f_left, f_workLen, a_entry, a_reading, a_painted, a_work, a_len, a_w, a_h, a_b, a_first, a_padA, a_padB, a_y, a_x))) ∧ (¬ nI (t k) = 11 → (post 42 (f_rows, f_cols, f_room, f_entryLen, f_readingLen, f_paintedLen, f_top, f_left, f_workLen, a_entry, a_reading, a_painted, a_work, a_len, a_w, a_h, a_b, a_first, a_padA, a_padB, a_y, a_x))))))))) ∧ (¬ nI c = (((a_x x5.toNatClampNeg) - (a_padB (nI k).toNatClampNeg)) - 1) → (wY_cell_169 post (nI r) (nI c) (nI k) x5 x6 f_rows f_cols f_room f_entryLen f_readingLen f_paintedLen f_top f_left f_workLen a_entry a_reading a_painted a_work a_len a_w a_h a_b a_first a_padA a_padB a_y a_x))))))) ∧ (¬ nI r = ((a_y (nI k).toNatClampNeg) + (a_b (nI k).toNatClampNeg)) → (wY_cell_169 post (nI r) (nI c) (nI k) x5 x6 f_rows f_cols f_room f_entryLen f_readingLen f_paintedLen f_top f_left f_workLen a_entry a_reading a_painted a_work a_len a_w a_h a_b a_first a_padA a_padB a_y a_x))))))))))))))) ∧ (¬ 1 ≤ nI k → (post 32 (f_rows, f_cols, f_room, f_entryLen, f_readingLen, f_paintedLen, f_top, f_left, f_workLen, a_entry, a_reading, a_painted, a_work, a_len, a_w, a_h, a_b, a_first, a_padA, a_padB, a_y, a_x)))) := by
  obtain ⟨h0, h4, h5⟩ := fo_op wf hk hop
  have h14 := (wf k hk).1
  have lp := fo_L_pos t (k - 1)
  obtain ⟨⟨i1, i2, i3, i4, i5⟩, i6⟩ := ms k hk
  obtain ⟨i6, i7, i8⟩ := i6 hop
  obtain ⟨⟨f1, f2, f3, f4, f5⟩, _⟩ := ms (fo_f t k) (by omega)
  obtain ⟨⟨s1, s2, s3, s4, s5⟩, _⟩ := ms (k - 1) (by omega)
  obtain ⟨p1, p2, p3, p4⟩ := pl k (by omega) hk hop
  obtain ⟨gA1, gA2, gA3, gB1, gB2, gB3, gw1, gw2, _⟩ := fo_geo wf hk hop
  obtain ⟨bk1, bk2⟩ := hb k hk
  obtain ⟨bf1, bf2⟩ := hb (fo_f t k) (by omega)
  obtain ⟨bs1, bs2⟩ := hb (k - 1) (by omega)
  have ck : (nI k).toNatClampNeg = k := nI_clamp (by omega)
  have cf : (nI (fo_f t k)).toNatClampNeg = fo_f t k := nI_clamp (by omega)
  have cs : (nI (k - 1)).toNatClampNeg = k - 1 := nI_clamp (by omega)
  have pa := fo_pA_le t k
  have pb := fo_pB_le t k
  have nk : vp_in (nI k) 31 := pk_in k 31 (by omega)
  obtain ⟨yk, xk⟩ := hy k hk
  obtain ⟨yf, xf⟩ := hy (fo_f t k) (by omega)
  obtain ⟨ys, xs⟩ := hy (k - 1) (by omega)
  have own1 := own.1
  have zB := (fo_sz wf k hk).2.2.1
  unfold fo_chr at hp
  rw [if_neg (by omega)] at hp
  have V : t k ≠ 13 → ¬ (t k ≠ 14 ∧ r = yy k + fo_B t k ∧ c + fo_pB t k + 1 = xx (k - 1)) → wY_cell_169 post (nI r) (nI c) (nI k) (nI (k - 1)) (nI (fo_f t k)) f_rows f_cols f_room f_entryLen f_readingLen f_paintedLen f_top f_left f_workLen a_entry a_reading a_painted a_work a_len a_w a_h a_b a_first a_padA a_padB a_y a_x := by
    intro n13 hs
    refine yw_169 (by omega) (by omega) (by omega) pb pa (by omega) (by omega) (by omega) (by omega) (by omega) (by omega) (by omega) (by omega) i8 i7 ys xs s4 s3 yf xf f4 f3 ?_
    intro v hv
    rw [fo_own_v wf hk hop n13 pl own1 hs hv] at hp
    exact hp
  refine br_t (nI_le (a := 1) (by omega) (by omega)) ?_
  refine nm_r (xw_pr h0) ⟨nk, nm_r (e' := nI (fo_f t k)) (by rw [ck]; exact i6) ?_⟩
  refine pk_eq (t k) 13 (fun z => ⟨nk, pk_in (fo_f t k) 31 (by omega), ?_⟩) (fun z => pk_eq (t k) 14 (fun z2 => ?_) (fun z2 => ⟨nk, nk, ?_⟩))
  · rw [ck, cf, yk, f4, nI_add]
    unfold fo_own at hp
    rw [if_pos z] at hp
    refine pk_eq r (yy k + fo_H t (fo_f t k)) (fun q => ?_) (fun q => ?_)
    · rw [if_pos (by omega)] at hp; exact hp
    · rw [if_neg (by omega)] at hp; exact hp
  · exact V z (by omega)
  · obtain ⟨g1, g2, g3, g4⟩ := fo_gc (t := t) (i := k) (by omega)
    rw [ck, yk, i5, nI_add]
    refine pk_eq r (yy k + fo_B t k) (fun q => ⟨pk_in (k - 1) 31 (by omega), nk, ?_⟩) (fun q => V z (by omega))
    rw [cs, xs, i8, pk_sub (by omega), xw_pr (by omega)]
    refine pk_eq c (xx (k - 1) - fo_pB t k - 1) (fun q2 => ?_) (fun q2 => V z (by omega))
    unfold fo_own at hp
    rw [if_neg z, if_pos (by omega)] at hp
    unfold fo_sg at hp
    refine pk_eq (t k) 10 (fun w => ?_) (fun w => pk_eq (t k) 11 (fun w2 => ?_) (fun w2 => ?_))
    · rw [if_pos w] at hp; exact hp
    · rw [if_neg w, if_pos w2] at hp; exact hp
    · rw [if_neg w, if_neg w2] at hp; exact hp
theorem yw_cell {post : Int32 → SY → Prop} {t : Nat → Nat} {n top left rows cols r c : Nat} (hrows : rows ≤ 10) (hcols : cols ≤ 25) (wf : fo_WF t n) (hn : n ≤ 31) (h0 : 0 < n) (hL : fo_L t (n - 1) = n) (he : ∀ j, j < n → a_painted j = nI (t j)) (fr : top + fo_H t (n - 1) ≤ rows) (fc : left + fo_W t (n - 1) ≤ cols) (hr : r < rows) (hc : c < cols)
    (hp : ∀ wl wo le w h b fi pA pB y x, post (nI (fo_pg t n top left r c)) (nI rows, nI cols, f_room, f_entryLen, f_readingLen, nI n, nI top, nI left, wl, a_entry, a_reading, a_painted, wo, le, w, h, b, fi, pA, pB, y, x)) : wpY_cell post (nI rows, nI cols, f_room, f_entryLen, f_readingLen, nI n, nI top, nI left, f_workLen, a_entry, a_reading, a_painted, a_work, a_len, a_w, a_h, a_b, a_first, a_padA, a_padB, a_y, a_x) (nI r) (nI c) := by
  obtain ⟨yy, xx, hy, hx, pl, hb⟩ := fo_places wf h0 hL fr fc
  have hb' : ∀ j, j < n → yy j + fo_H t j ≤ 1000 ∧ xx j + fo_W t j ≤ 1000 := fun j hj => by have := hb j hj; omega
  unfold wpY_cell
  refine yw_outside (by omega) (by omega) hr hc ?_
  refine br_t rfl ?_
  refine yw_inn wf hn h0 hL he pl hy hx hb' (by omega) (by omega) ?_ ?_
  · intro no wo le w h b fi pA pB y x
    have hp' := hp (nI n) wo le w h b fi pA pB y x
    rw [fo_pg_none hy hx (no (n - 1) (by omega))] at hp'
    exact br_f (by decide) hp'
  · intro k k1 k2 k3 wo le w h b fi pA pB y x ms q
    obtain ⟨own, e⟩ := fo_pg_own wf h0 hL pl hy hx k1 k2 k3
    have hp' := hp (nI n) wo le w h b fi pA pB y x
    rw [e] at hp'
    have ck : (nI k).toNatClampNeg = k := nI_clamp (by omega)
    have h14 := (wf k k1).1
    refine br_t (nI_pos' (by omega)) ⟨pk_in k 31 (by omega), nm_r (e' := nI (t k)) (by rw [ck]; exact (ms k k1).1.1) ?_⟩
    refine pk_le 10 (t k) (fun z => ?_) (fun z => ?_)
    · exact yw_chr wf hn pl hb' (by omega) (by omega) k1 own ms q z hp'
    · unfold fo_chr at hp'
      rw [if_pos z] at hp'
      rw [show (48 : Int32) + nI (t k) = nI (48 + t k) from nI_add 48 _]
      exact hp'
theorem yw_cell0 {post : Int32 → SY → Prop} {rows cols r c : Nat} (hrows : rows ≤ 10) (hcols : cols ≤ 25) (hr : r < rows) (hc : c < cols)
    (hp : ∀ wl wo le w h b fi pA pB y x, post 32 (nI rows, nI cols, f_room, f_entryLen, f_readingLen, nI 0, f_top, f_left, wl, a_entry, a_reading, a_painted, wo, le, w, h, b, fi, pA, pB, y, x)) : wpY_cell post (nI rows, nI cols, f_room, f_entryLen, f_readingLen, nI 0, f_top, f_left, f_workLen, a_entry, a_reading, a_painted, a_work, a_len, a_w, a_h, a_b, a_first, a_padA, a_padB, a_y, a_x) (nI r) (nI c) := by
  unfold wpY_cell
  refine yw_outside (by omega) (by omega) hr hc ?_
  refine br_t rfl ?_
  refine yw_inn0 ?_
  intro wl wo le w h b fi pA pB y x
  exact br_f (by decide) (hp _ _ _ _ _ _ _ _ _ _ _)
end
end
section
/-! what is painted where -/
section
variable {t yy xx : Nat → Nat} {n top left i r c : Nat}
theorem fo_pg_chr (wf : fo_WF t n) (h0 : 0 < n) (hL : fo_L t (n - 1) = n) (pl : fo_Pl t yy xx 0 n) (hy : yy (n - 1) = top) (hx : xx (n - 1) = left) (hi : i < n) (own : fo_Own t yy xx i r c) : fo_pg t n top left r c = fo_chr t yy xx i r c := by
  have pl' : fo_Pl t yy xx (n - 1 + 1 - fo_L t (n - 1)) (n - 1 + 1) := fo_Pl_sub pl (by omega) (by omega)
  have ii := fo_inside wf (n - 1) (by omega) pl' i (by omega) (by omega)
  have own1 := own.1
  have hr : fo_at t yy xx (n - 1) r c := by omega
  have lk := fo_L_le wf i hi
  have nb := fo_nest wf (n - 1) (by omega) i (by omega) (by omega)
  rw [← fo_chr_pic wf hi (fo_Pl_sub pl (by omega) (by omega)) own, ← fo_restr wf (n - 1) (by omega) pl' i (by omega) (by omega) own1, hy, hx]
  unfold fo_pg
  rw [← hy, ← hx]
  exact if_pos hr
theorem fo_pg_d (wf : fo_WF t n) (h0 : 0 < n) (hL : fo_L t (n - 1) = n) (pl : fo_Pl t yy xx 0 n) (hy : yy (n - 1) = top) (hx : xx (n - 1) = left) (hi : i < n) (hd : t i < 10) : fo_pg t n top left (yy i) (xx i) = 48 + t i := by
  obtain ⟨a, b, c⟩ := fo_D_d hd
  rw [fo_pg_chr wf h0 hL pl hy hx hi (i := i) ⟨by omega, fun z => by omega⟩]
  unfold fo_chr
  rw [if_pos hd]
theorem fo_pg_R (wf : fo_WF t n) (h0 : 0 < n) (hL : fo_L t (n - 1) = n) (pl : fo_Pl t yy xx 0 n) (hy : yy (n - 1) = top) (hx : xx (n - 1) = left) (hi : i < n) (h13 : t i = 13) (hr : r = yy i + fo_H t (fo_f t i)) (hc1 : xx i ≤ c) (hc2 : c < xx i + fo_W t i) : fo_pg t n top left r c = 95 := by
  obtain ⟨o1, o2, o3⟩ := fo_op wf hi (by omega)
  obtain ⟨p1, p2, p3, p4⟩ := pl i (by omega) hi (by omega)
  obtain ⟨q1, q2, q3, q4, q5⟩ := fo_D_13 h13 o1
  obtain ⟨g1, g2, g3, g4⟩ := fo_g13 h13
  rw [fo_pg_chr wf h0 hL pl hy hx hi (i := i) ⟨by omega, fun _ => by omega⟩]
  unfold fo_chr fo_own
  rw [if_neg (by omega), if_pos h13, if_pos (by omega)]
theorem fo_pg_S (wf : fo_WF t n) (h0 : 0 < n) (hL : fo_L t (n - 1) = n) (pl : fo_Pl t yy xx 0 n) (hy : yy (n - 1) = top) (hx : xx (n - 1) = left) (hi : i < n) (h10 : 10 ≤ t i) (h12 : t i ≤ 12) (hr : r = yy i + fo_B t i) (hc : c = xx i + (fo_W t (fo_f t i) + 2 * fo_pA t i)) : fo_pg t n top left r c = fo_sg (t i) := by
  obtain ⟨o1, o2, o3⟩ := fo_op wf hi (by omega)
  obtain ⟨p1, p2, p3, p4⟩ := pl i (by omega) hi (by omega)
  obtain ⟨g1, g2, g3, g4⟩ := fo_gc (t := t) (i := i) h12
  obtain ⟨gA1, gA2, gA3, gB1, gB2, gB3, gw1, gw2, _⟩ := fo_geo wf hi h10
  have z := (fo_sz wf i hi).2.2.1
  have pa := fo_pA_le t i
  rw [fo_pg_chr wf h0 hL pl hy hx hi (i := i) ⟨by omega, fun _ => by omega⟩]
  unfold fo_chr fo_own
  rw [if_neg (by omega), if_neg (by omega), if_pos (by omega)]
/-- the first operand's brackets -/
theorem fo_pg_A (wf : fo_WF t n) (h0 : 0 < n) (hL : fo_L t (n - 1) = n) (pl : fo_Pl t yy xx 0 n) (hy : yy (n - 1) = top) (hx : xx (n - 1) = left) (hi : i < n) (h10 : 10 ≤ t i) (hp : fo_pA t i = 1) (hr1 : yy (fo_f t i) ≤ r) (hr2 : r < yy (fo_f t i) + fo_H t (fo_f t i)) :
    1 ≤ xx (fo_f t i) ∧ fo_pg t n top left r (xx (fo_f t i) - 1) = 40 ∧ fo_pg t n top left r (xx (fo_f t i) + fo_W t (fo_f t i)) = 41 := by
  obtain ⟨o1, o2, o3⟩ := fo_op wf hi (by omega)
  obtain ⟨p1, p2, p3, p4⟩ := pl i (by omega) hi (by omega)
  obtain ⟨gA1, gA2, gA3, gB1, gB2, gB3, gw1, gw2, gd⟩ := fo_geo wf hi h10
  have h14 := (wf i hi).1
  have h13 : t i ≠ 13 := by intro z; have := (fo_D_13 z o1).1; omega
  have gx : fo_fx t i = 1 ∧ (fo_sy t i + fo_H t (i - 1) ≤ fo_fy t i ∨ fo_W t (fo_f t i) + 3 ≤ fo_sx t i) ∧ (t i ≠ 14 → fo_sx t i = fo_W t (fo_f t i) + 3 + fo_pB t i) := by
    by_cases z : t i = 14
    · obtain ⟨g1, g2, g3, g4⟩ := fo_g14 z
      omega
    · obtain ⟨g1, g2, g3, g4⟩ := fo_gc (t := t) (i := i) (by omega)
      omega
  obtain ⟨gx1, gx2, gx3⟩ := gx
  refine ⟨by omega, ?_, ?_⟩
  · rw [fo_pg_chr wf h0 hL pl hy hx hi (i := i) ⟨by omega, fun _ => by omega⟩]
    unfold fo_chr fo_own
    rw [if_neg (by omega), if_neg h13, if_neg (by omega), if_pos (by omega)]
  · rw [fo_pg_chr wf h0 hL pl hy hx hi (i := i) ⟨by omega, fun _ => by omega⟩]
    unfold fo_chr fo_own
    rw [if_neg (by omega), if_neg h13, if_neg (by omega), if_neg (by omega), if_pos (by omega)]
/-- the second operand's brackets -/
theorem fo_pg_B (wf : fo_WF t n) (h0 : 0 < n) (hL : fo_L t (n - 1) = n) (pl : fo_Pl t yy xx 0 n) (hy : yy (n - 1) = top) (hx : xx (n - 1) = left) (hi : i < n) (h10 : 10 ≤ t i) (hp : fo_pB t i = 1) (hr1 : yy (i - 1) ≤ r) (hr2 : r < yy (i - 1) + fo_H t (i - 1)) :
    1 ≤ xx (i - 1) ∧ fo_pg t n top left r (xx (i - 1) - 1) = 40 ∧ fo_pg t n top left r (xx (i - 1) + fo_W t (i - 1)) = 41 := by
  obtain ⟨o1, o2, o3⟩ := fo_op wf hi (by omega)
  obtain ⟨p1, p2, p3, p4⟩ := pl i (by omega) hi (by omega)
  obtain ⟨gA1, gA2, gA3, gB1, gB2, gB3, gw1, gw2, gd⟩ := fo_geo wf hi h10
  have h14 := (wf i hi).1
  have h13 : t i ≠ 13 := by intro z; have := (fo_D_13 z o1).2.1; omega
  have h14' : t i ≠ 14 := by intro z; have := (fo_D_14 z o1).1; omega
  obtain ⟨g1, g2, g3, g4⟩ := fo_gc (t := t) (i := i) (by omega)
  have pa := fo_pA_le t i
  have zs := (fo_sz wf (i - 1) (by omega)).1
  refine ⟨by omega, ?_, ?_⟩
  · rw [fo_pg_chr wf h0 hL pl hy hx hi (i := i) ⟨by omega, fun _ => by omega⟩]
    unfold fo_chr fo_own
    rw [if_neg (by omega), if_neg h13, if_neg (by omega), if_neg (by omega), if_neg (by omega), if_pos (by omega)]
  · rw [fo_pg_chr wf h0 hL pl hy hx hi (i := i) ⟨by omega, fun _ => by omega⟩]
    unfold fo_chr fo_own
    rw [if_neg (by omega), if_neg h13, if_neg (by omega), if_neg (by omega), if_neg (by omega), if_neg (by omega), if_pos (by omega)]
/-- what an operator itself draws, it draws at these cells -/
theorem fo_own_cov (pl : fo_Pl t yy xx 0 n) (hi : i < n) (h10 : 10 ≤ t i) (own : fo_at t yy xx i r c) (hne : fo_own t i (r - yy i) (c - xx i) ≠ 32) :
    (t i = 13 ∧ r = yy i + fo_H t (fo_f t i)) ∨ (t i ≠ 13 ∧ t i ≠ 14 ∧ r = yy i + fo_B t i ∧ c + fo_pB t i + 1 = xx (i - 1))
    ∨ (t i ≠ 13 ∧ fo_pA t i = 1 ∧ yy (fo_f t i) ≤ r ∧ r < yy (fo_f t i) + fo_H t (fo_f t i) ∧ (c + 1 = xx (fo_f t i) ∨ c = xx (fo_f t i) + fo_W t (fo_f t i)))
    ∨ (t i ≠ 13 ∧ fo_pB t i = 1 ∧ yy (i - 1) ≤ r ∧ r < yy (i - 1) + fo_H t (i - 1) ∧ (c + 1 = xx (i - 1) ∨ c = xx (i - 1) + fo_W t (i - 1))) := by
  obtain ⟨p1, p2, p3, p4⟩ := pl i (by omega) hi h10
  unfold fo_own at hne
  by_cases z : t i = 13
  · rw [if_pos z] at hne
    by_cases q : r - yy i = fo_H t (fo_f t i)
    · exact Or.inl ⟨z, by omega⟩
    · rw [if_neg q] at hne; exact absurd rfl hne
  · rw [if_neg z] at hne
    by_cases c1 : t i ≠ 14 ∧ r - yy i = fo_B t i ∧ c - xx i + fo_pB t i + 1 = fo_sx t i
    · exact Or.inr (Or.inl ⟨z, by omega⟩)
    · rw [if_neg c1] at hne
      by_cases c2 : fo_pA t i = 1 ∧ fo_fy t i ≤ r - yy i ∧ r - yy i < fo_fy t i + fo_H t (fo_f t i) ∧ c - xx i + 1 = fo_fx t i
      · exact Or.inr (Or.inr (Or.inl ⟨z, by omega⟩))
      · rw [if_neg c2] at hne
        by_cases c3 : fo_pA t i = 1 ∧ fo_fy t i ≤ r - yy i ∧ r - yy i < fo_fy t i + fo_H t (fo_f t i) ∧ c - xx i = fo_fx t i + fo_W t (fo_f t i)
        · exact Or.inr (Or.inr (Or.inl ⟨z, by omega⟩))
        · rw [if_neg c3] at hne
          by_cases c4 : fo_pB t i = 1 ∧ fo_sy t i ≤ r - yy i ∧ r - yy i < fo_sy t i + fo_H t (i - 1) ∧ c - xx i + 1 = fo_sx t i
          · exact Or.inr (Or.inr (Or.inr ⟨z, by omega⟩))
          · rw [if_neg c4] at hne
            by_cases c5 : fo_pB t i = 1 ∧ fo_sy t i ≤ r - yy i ∧ r - yy i < fo_sy t i + fo_H t (i - 1) ∧ c - xx i = fo_sx t i + fo_W t (i - 1)
            · exact Or.inr (Or.inr (Or.inr ⟨z, by omega⟩))
            · rw [if_neg c5] at hne; exact absurd rfl hne
end
/-! the grid under work: every cell is right, or blank and not among those done -/
def gi_ok (rows cols : Nat) (PG : Nat → Nat → Nat) (S : Nat → Nat → Prop) (g : Nat → Int32) : Prop := ∀ r c, r < rows → c < cols → g (r * cols + c) = nI (PG r c) ∨ (g (r * cols + c) = 32 ∧ ¬ S r c)
theorem ix_inj {cols r c r' c' : Nat} (hc : c < cols) (hc' : c' < cols) (h : r * cols + c = r' * cols + c') : r = r' ∧ c = c' := by
  have h1 : (r * cols + c) / cols = r := by rw [Nat.mul_comm, Nat.mul_add_div (by omega), Nat.div_eq_of_lt hc]; rfl
  have h2 : (r' * cols + c') / cols = r' := by rw [Nat.mul_comm, Nat.mul_add_div (by omega), Nat.div_eq_of_lt hc']; rfl
  have e : r = r' := by rw [← h1, ← h2, h]
  subst e
  exact ⟨rfl, by omega⟩
theorem ix_lt {rows cols r c : Nat} (hr : r < rows) (hc : c < cols) (h1 : rows ≤ 10) (h2 : cols ≤ 25) : r * cols + c < 250 := by
  have a : r * cols ≤ 9 * cols := Nat.mul_le_mul (by omega) (by omega)
  omega
theorem gi_put {rows cols : Nat} {PG : Nat → Nat → Nat} {S : Nat → Nat → Prop} {g : Nat → Int32} {r0 c0 : Nat} (h : gi_ok rows cols PG S g) (hc : c0 < cols) : gi_ok rows cols PG (fun r c => S r c ∨ (r = r0 ∧ c = c0)) (upd g (r0 * cols + c0) (nI (PG r0 c0))) := by
  intro r c r1 c1
  by_cases e : r * cols + c = r0 * cols + c0
  · obtain ⟨a, b⟩ := ix_inj c1 hc e
    subst a b
    exact Or.inl pk_us
  · rw [pk_un e]
    rcases h r c r1 c1 with q | ⟨q1, q2⟩
    · exact Or.inl q
    · refine Or.inr ⟨q1, fun z => ?_⟩
      rcases z with z | ⟨z1, z2⟩
      · exact q2 z
      · subst z1 z2; exact e rfl
theorem gi_sub {rows cols : Nat} {PG : Nat → Nat → Nat} {S S' : Nat → Nat → Prop} {g : Nat → Int32} (h : gi_ok rows cols PG S g) (hs : ∀ r c, S' r c → S r c) : gi_ok rows cols PG S' g := by
  intro r c r1 c1
  rcases h r c r1 c1 with q | ⟨q1, q2⟩
  · exact Or.inl q
  · exact Or.inr ⟨q1, fun z => q2 (hs r c z)⟩
end
section
/-! the component: cells, erasing, drawing -/
section
variable {f_rows f_cols f_room f_entryCount f_open f_readCount f_seenCount f_taskCount f_curTop f_curLeft f_curBottom f_curRight : Int32} {a_entry a_boxStart a_boxW a_boxH a_boxB a_posRow a_posCol a_grid a_readList a_seenToken a_seenTop a_seenLeft a_seenBottom a_seenRight a_taskKind a_taskTop a_taskLeft a_taskBottom a_taskRight : Nat → Int32}
theorem xw_onGrid {post : Int32 → Prop} {rows cols r c : Nat} (h1 : rows ≤ 10) (h2 : cols ≤ 25) (hr : r < rows) (hc : c < cols) (hp : post 1) : wpX_onGrid post (nI rows, nI cols, f_room, f_entryCount, f_open, f_readCount, f_seenCount, f_taskCount, f_curTop, f_curLeft, f_curBottom, f_curRight, a_entry, a_boxStart, a_boxW, a_boxH, a_boxB, a_posRow, a_posCol, a_grid, a_readList, a_seenToken, a_seenTop, a_seenLeft, a_seenBottom, a_seenRight, a_taskKind, a_taskTop, a_taskLeft, a_taskBottom, a_taskRight) (nI r) (nI c) :=
  br_f (nI_pos (by omega)) (br_f (nI_ge hr (by omega)) (br_f (nI_pos (by omega)) (br_f (nI_ge hc (by omega)) hp)))
theorem xw_offGrid {post : Int32 → Prop} {rows cols : Nat} {p q : Int32} (h1 : rows ≤ 10) (h2 : cols ≤ 25) (h : ¬ ∃ r c : Nat, r < rows ∧ c < cols ∧ p = nI r ∧ q = nI c) (hp : post 0) : wpX_onGrid post (nI rows, nI cols, f_room, f_entryCount, f_open, f_readCount, f_seenCount, f_taskCount, f_curTop, f_curLeft, f_curBottom, f_curRight, a_entry, a_boxStart, a_boxW, a_boxH, a_boxB, a_posRow, a_posCol, a_grid, a_readList, a_seenToken, a_seenTop, a_seenLeft, a_seenBottom, a_seenRight, a_taskKind, a_taskTop, a_taskLeft, a_taskBottom, a_taskRight) p q := by
  refine br_c (fun _ => hp) (fun a => br_c (fun _ => hp) (fun b => br_c (fun _ => hp) (fun c => br_c (fun _ => hp) (fun d => ?_))))
  exfalso
  obtain ⟨r, hr, er⟩ := nI_of a
  obtain ⟨s, hs, es⟩ := nI_of c
  subst er es
  rw [nI_leI (by omega) hr] at b
  rw [nI_leI (by omega) hs] at d
  exact h ⟨r, s, by omega, by omega, rfl, rfl⟩
theorem xw_cell {post : Int32 → Prop} {rows cols r c : Nat} (h1 : rows ≤ 10) (h2 : cols ≤ 25) (hr : r < rows) (hc : c < cols) (hp : post (a_grid (r * cols + c))) : wpX_cell post (nI rows, nI cols, f_room, f_entryCount, f_open, f_readCount, f_seenCount, f_taskCount, f_curTop, f_curLeft, f_curBottom, f_curRight, a_entry, a_boxStart, a_boxW, a_boxH, a_boxB, a_posRow, a_posCol, a_grid, a_readList, a_seenToken, a_seenTop, a_seenLeft, a_seenBottom, a_seenRight, a_taskKind, a_taskTop, a_taskLeft, a_taskBottom, a_taskRight) (nI r) (nI c) := by
  have l := ix_lt hr hc h1 h2
  unfold wpX_cell
  refine xw_onGrid h1 h2 hr hc ?_
  refine br_f (by decide) ?_
  rw [pk_mul, nI_add]
  exact ⟨pk_in _ 250 l, by rw [nI_clamp (by omega)]; exact hp⟩
theorem xw_cell0 {post : Int32 → Prop} {rows cols : Nat} {p q : Int32} (h1 : rows ≤ 10) (h2 : cols ≤ 25) (h : ¬ ∃ r c : Nat, r < rows ∧ c < cols ∧ p = nI r ∧ q = nI c) (hp : post (-1)) : wpX_cell post (nI rows, nI cols, f_room, f_entryCount, f_open, f_readCount, f_seenCount, f_taskCount, f_curTop, f_curLeft, f_curBottom, f_curRight, a_entry, a_boxStart, a_boxW, a_boxH, a_boxB, a_posRow, a_posCol, a_grid, a_readList, a_seenToken, a_seenTop, a_seenLeft, a_seenBottom, a_seenRight, a_taskKind, a_taskTop, a_taskLeft, a_taskBottom, a_taskRight) p q := by
  unfold wpX_cell
  exact xw_offGrid h1 h2 h (br_t rfl hp)
theorem xw_put {post : SX → Prop} {rows cols r c : Nat} {v : Int32} (h1 : rows ≤ 10) (h2 : cols ≤ 25) (hr : r < rows) (hc : c < cols) (hp : post (nI rows, nI cols, f_room, f_entryCount, f_open, f_readCount, f_seenCount, f_taskCount, f_curTop, f_curLeft, f_curBottom, f_curRight, a_entry, a_boxStart, a_boxW, a_boxH, a_boxB, a_posRow, a_posCol, upd a_grid (r * cols + c) v, a_readList, a_seenToken, a_seenTop, a_seenLeft, a_seenBottom, a_seenRight, a_taskKind, a_taskTop, a_taskLeft, a_taskBottom, a_taskRight)) : wpX_put post (nI rows, nI cols, f_room, f_entryCount, f_open, f_readCount, f_seenCount, f_taskCount, f_curTop, f_curLeft, f_curBottom, f_curRight, a_entry, a_boxStart, a_boxW, a_boxH, a_boxB, a_posRow, a_posCol, a_grid, a_readList, a_seenToken, a_seenTop, a_seenLeft, a_seenBottom, a_seenRight, a_taskKind, a_taskTop, a_taskLeft, a_taskBottom, a_taskRight) (nI r) (nI c) v := by
  have l := ix_lt hr hc h1 h2
  unfold wpX_put
  refine xw_onGrid h1 h2 hr hc ?_
  refine br_f (by decide) ?_
  rw [pk_mul, nI_add]
  exact ⟨pk_in _ 250 l, nm_r (e' := upd a_grid (r * cols + c) v) (by rw [nI_clamp (by omega)]) hp⟩
theorem xw_erase_l {post : SX → Prop} (hp : ∀ g : Nat → Int32, (∀ j, j < 250 → g j = 32) → post (f_rows, f_cols, f_room, f_entryCount, f_open, f_readCount, f_seenCount, f_taskCount, f_curTop, f_curLeft, f_curBottom, f_curRight, a_entry, a_boxStart, a_boxW, a_boxH, a_boxB, a_posRow, a_posCol, g, a_readList, a_seenToken, a_seenTop, a_seenLeft, a_seenBottom, a_seenRight, a_taskKind, a_taskTop, a_taskLeft, a_taskBottom, a_taskRight)) : ∀ d i (g : Nat → Int32), i + d = 250 → (∀ j, j < i → g j = 32) → wX_erase_2 post f_rows f_cols f_room f_entryCount f_open f_readCount f_seenCount f_taskCount f_curTop f_curLeft f_curBottom f_curRight (d + 1) (nI i) a_entry a_boxStart a_boxW a_boxH a_boxB a_posRow a_posCol g a_readList a_seenToken a_seenTop a_seenLeft a_seenBottom a_seenRight a_taskKind a_taskTop a_taskLeft a_taskBottom a_taskRight := by
  intro d
  induction d with
  | zero =>
    intro i g hi h
    refine br_t (nI_le (a := 250) (by omega) (by omega)) (hp g fun j hj => h j (by omega))
  | succ d ih =>
    intro i g hi h
    refine br_f (nI_ge (b := 250) (by omega) (by omega)) ⟨pk_in i 250 (by omega), nm_r (e' := upd g i 32) (by rw [nI_clamp (by omega)]) (nm_r (nI_1 i) (ih (i + 1) _ (by omega) ?_))⟩
    intro j hj
    by_cases e : j = i
    · rw [e, pk_us]
    · rw [pk_un e]; exact h j (by omega)
theorem xw_erase {post : SX → Prop} (hp : ∀ g : Nat → Int32, (∀ j, j < 250 → g j = 32) → post (f_rows, f_cols, f_room, f_entryCount, f_open, f_readCount, f_seenCount, f_taskCount, f_curTop, f_curLeft, f_curBottom, f_curRight, a_entry, a_boxStart, a_boxW, a_boxH, a_boxB, a_posRow, a_posCol, g, a_readList, a_seenToken, a_seenTop, a_seenLeft, a_seenBottom, a_seenRight, a_taskKind, a_taskTop, a_taskLeft, a_taskBottom, a_taskRight)) : wpX_erase post (f_rows, f_cols, f_room, f_entryCount, f_open, f_readCount, f_seenCount, f_taskCount, f_curTop, f_curLeft, f_curBottom, f_curRight, a_entry, a_boxStart, a_boxW, a_boxH, a_boxB, a_posRow, a_posCol, a_grid, a_readList, a_seenToken, a_seenTop, a_seenLeft, a_seenBottom, a_seenRight, a_taskKind, a_taskTop, a_taskLeft, a_taskBottom, a_taskRight) :=
  ⟨251, xw_erase_l hp 250 0 a_grid (by omega) (fun j hj => absurd hj (by omega))⟩
/-- brackets around an operand -/
theorem xw_pl52 {post : SX → Prop} {rows cols k row col w h : Nat} {PG : Nat → Nat → Nat} {S : Nat → Nat → Prop} (h1 : rows ≤ 10) (h2 : cols ≤ 25) (hk : k < 31) (eh : a_boxH k = nI h) (hb1 : row + h ≤ rows) (hb2 : col + w + 2 ≤ cols) (hv : ∀ r, row ≤ r → r < row + h → PG r col = 40 ∧ PG r (col + w + 1) = 41)
    (hp : ∀ g, gi_ok rows cols PG (fun r c => S r c ∨ (row ≤ r ∧ r < row + h ∧ (c = col ∨ c = col + w + 1))) g → post (nI rows, nI cols, f_room, f_entryCount, f_open, f_readCount, f_seenCount, f_taskCount, f_curTop, f_curLeft, f_curBottom, f_curRight, a_entry, a_boxStart, a_boxW, a_boxH, a_boxB, a_posRow, a_posCol, g, a_readList, a_seenToken, a_seenTop, a_seenLeft, a_seenBottom, a_seenRight, a_taskKind, a_taskTop, a_taskLeft, a_taskBottom, a_taskRight)) :
    ∀ d j g, j + d = h → gi_ok rows cols PG (fun r c => S r c ∨ (row ≤ r ∧ r < row + j ∧ (c = col ∨ c = col + w + 1))) g → wX_place_52 post (nI k) (nI row) (nI col) (nI (col + w + 1)) (d + 1) (nI j) (nI rows) (nI cols) f_room f_entryCount f_open f_readCount f_seenCount f_taskCount f_curTop f_curLeft f_curBottom f_curRight a_entry a_boxStart a_boxW a_boxH a_boxB a_posRow a_posCol g a_readList a_seenToken a_seenTop a_seenLeft a_seenBottom a_seenRight a_taskKind a_taskTop a_taskLeft a_taskBottom a_taskRight := by
  intro d
  induction d with
  | zero =>
    intro j g hj gi
    refine ⟨pk_in k 31 hk, ?_⟩
    rw [nI_clamp (by omega), eh]
    have e : j = h := by omega
    subst e
    exact br_t (nI_le (Nat.le_refl _) (by omega)) (hp g gi)
  | succ d ih =>
    intro j g hj gi
    refine ⟨pk_in k 31 hk, ?_⟩
    rw [nI_clamp (by omega), eh]
    refine br_f (nI_ge (by omega) (by omega)) ?_
    rw [nI_add]
    refine xw_put h1 h2 (by omega) (by omega) ?_
    refine xw_put h1 h2 (by omega) (by omega) ?_
    refine nm_r (nI_1 j) (ih (j + 1) _ (by omega) ?_)
    obtain ⟨v1, v2⟩ := hv (row + j) (by omega) (by omega)
    have g1 := gi_put (r0 := row + j) (c0 := col) gi (by omega)
    rw [v1] at g1
    have g2 := gi_put (r0 := row + j) (c0 := col + w + 1) g1 (by omega)
    rw [v2] at g2
    refine gi_sub g2 ?_
    intro r c z
    rcases z with z | ⟨z1, z2, z3⟩
    · exact Or.inl (Or.inl (Or.inl z))
    · by_cases q : r = row + j
      · rcases z3 with z3 | z3
        · exact Or.inl (Or.inr ⟨q, z3⟩)
        · exact Or.inr ⟨q, z3⟩
      · exact Or.inl (Or.inl (Or.inr ⟨z1, by omega, z3⟩))
theorem xw_place {post : SX → Prop} {rows cols op k own sec row col w h : Nat} {PG : Nat → Nat → Nat} {S : Nat → Nat → Prop} (h1 : rows ≤ 10) (h2 : cols ≤ 25) (hk : k < 31) (ee : a_entry k = nI own) (ho : own ≤ 14) (hop : op ≤ 14) (hs : sec ≤ 1) (ew : a_boxW k = nI w) (eh : a_boxH k = nI h) (hb1 : row + h ≤ rows) (hb2 : col + w + 2 * fo_pad op own sec ≤ cols) (hv : fo_pad op own sec = 1 → ∀ r, row ≤ r → r < row + h → PG r col = 40 ∧ PG r (col + w + 1) = 41) (gi : gi_ok rows cols PG S a_grid)
    (hp : ∀ pc g, pc k = nI (col + fo_pad op own sec) → (∀ j, j ≠ k → pc j = a_posCol j) → gi_ok rows cols PG (fun r c => S r c ∨ (fo_pad op own sec = 1 ∧ row ≤ r ∧ r < row + h ∧ (c = col ∨ c = col + w + 1))) g → post (nI rows, nI cols, f_room, f_entryCount, f_open, f_readCount, f_seenCount, f_taskCount, f_curTop, f_curLeft, f_curBottom, f_curRight, a_entry, a_boxStart, a_boxW, a_boxH, a_boxB, upd a_posRow k (nI row), pc, g, a_readList, a_seenToken, a_seenTop, a_seenLeft, a_seenBottom, a_seenRight, a_taskKind, a_taskTop, a_taskLeft, a_taskBottom, a_taskRight)) :
    wpX_place post (nI rows, nI cols, f_room, f_entryCount, f_open, f_readCount, f_seenCount, f_taskCount, f_curTop, f_curLeft, f_curBottom, f_curRight, a_entry, a_boxStart, a_boxW, a_boxH, a_boxB, a_posRow, a_posCol, a_grid, a_readList, a_seenToken, a_seenTop, a_seenLeft, a_seenBottom, a_seenRight, a_taskKind, a_taskTop, a_taskLeft, a_taskBottom, a_taskRight) (nI op) (nI k) (nI row) (nI col) (nI sec) := by
  have ck : (nI k).toNatClampNeg = k := nI_clamp (by omega)
  have nk : vp_in (nI k) 31 := pk_in k 31 hk
  have pl := fo_pad_le op own sec
  unfold wpX_place
  refine ⟨nk, nm_r (e' := upd a_posRow k (nI row)) (by rw [ck]) ⟨nk, nm_r (e' := upd a_posCol k (nI col)) (by rw [ck]) ?_⟩⟩
  refine xw_bracketed hk ee hop ho hs ?_
  refine pk_eq (fo_pad op own sec) 0 (fun z => ?_) (fun z => ?_)
  · refine hp _ _ ?_ (fun j hj => pk_un hj) ?_
    · rw [pk_us, z]; rfl
    · refine gi_sub gi ?_
      intro r c q
      rcases q with q | q
      · exact q
      · omega
  · have z1 : fo_pad op own sec = 1 := by omega
    refine ⟨nk, nm_r (e' := upd (upd a_posCol k (nI col)) k (nI (col + 1))) (by rw [ck, nI_1]) ⟨nk, nm_r (e' := nI (col + w + 1)) (by rw [ck, ew, nI_add, nI_1]) ?_⟩⟩
    refine ⟨h + 1, xw_pl52 (S := S) h1 h2 hk eh hb1 (by omega) (hv z1) ?_ h 0 _ (by omega) ?_⟩
    · intro g gi'
      refine hp _ _ ?_ (fun j hj => by rw [pk_un hj, pk_un hj]) ?_
      · rw [pk_us, z1]
      · refine gi_sub gi' ?_
        intro r c q
        rcases q with q | q
        · exact Or.inl q
        · exact Or.inr q.2
    · refine gi_sub gi ?_
      intro r c q
      rcases q with q | q
      · exact q
      · omega
theorem xw_codeOf {post : Int32 → Prop} {k : Nat} (hk : k ≤ 14) (hp : post (nI (fo_sg k))) : wpX_codeOf post (f_rows, f_cols, f_room, f_entryCount, f_open, f_readCount, f_seenCount, f_taskCount, f_curTop, f_curLeft, f_curBottom, f_curRight, a_entry, a_boxStart, a_boxW, a_boxH, a_boxB, a_posRow, a_posCol, a_grid, a_readList, a_seenToken, a_seenTop, a_seenLeft, a_seenBottom, a_seenRight, a_taskKind, a_taskTop, a_taskLeft, a_taskBottom, a_taskRight) (nI k) := by
  unfold fo_sg at hp
  refine pk_eq k 10 (fun w => ?_) (fun w => pk_eq k 11 (fun w2 => ?_) (fun w2 => ?_))
  · rw [if_pos w] at hp; exact hp
  · rw [if_neg w, if_pos w2] at hp; exact hp
  · rw [if_neg w, if_neg w2] at hp; exact hp
end
end
section
/-! the component: drawing a node, painting -/
theorem pl_place {yy xx : Nat → Nat} {pr pc pc' : Nat → Int32} {k : Nat} (h1 : pc' k = nI (xx k)) (h2 : ∀ j, j ≠ k → pc' j = pc j) : pl_mono yy xx pr pc (upd pr k (nI (yy k))) pc' := by
  intro j h
  by_cases e : j = k
  · rw [e, pk_us]; exact ⟨rfl, h1⟩
  · rw [pk_un e, h2 j e]; exact h
section
variable {f_rows f_cols f_room f_entryCount f_open f_readCount f_seenCount f_taskCount f_curTop f_curLeft f_curBottom f_curRight : Int32} {a_entry a_boxStart a_boxW a_boxH a_boxB a_posRow a_posCol a_grid a_readList a_seenToken a_seenTop a_seenLeft a_seenBottom a_seenRight a_taskKind a_taskTop a_taskLeft a_taskBottom a_taskRight : Nat → Int32}
variable {t yy xx : Nat → Nat} {n top left rows cols : Nat}
theorem xw_df39 {post : SX → Prop} {i : Nat} {S : Nat → Nat → Prop} (h1 : rows ≤ 10) (h2 : cols ≤ 25) (wf : fo_WF t n) (hn : n ≤ 31) (h0 : 0 < n) (hL : fo_L t (n - 1) = n) (pl : fo_Pl t yy xx 0 n) (hy : yy (n - 1) = top) (hx : xx (n - 1) = left) (hb : ∀ j, j < n → yy j + fo_H t j ≤ rows ∧ xx j + fo_W t j ≤ cols) (ok : en_ok t n a_entry a_boxStart a_boxW a_boxH a_boxB) (hi : i < n) (h13 : t i = 13) (py : a_posRow i = nI (yy i)) (px : a_posCol i = nI (xx i)) (K : ∀ pr pc g, pl_mono yy xx a_posRow a_posCol pr pc → (10 ≤ t i → pr (fo_f t i) = nI (yy (fo_f t i)) ∧ pc (fo_f t i) = nI (xx (fo_f t i)) ∧ pr (i - 1) = nI (yy (i - 1)) ∧ pc (i - 1) = nI (xx (i - 1))) → gi_ok rows cols (fo_pg t n top left) (fun r c => S r c ∨ (fo_Own t yy xx i r c ∧ fo_pg t n top left r c ≠ 32)) g → post (nI rows, nI cols, f_room, f_entryCount, f_open, f_readCount, f_seenCount, f_taskCount, f_curTop, f_curLeft, f_curBottom, f_curRight, a_entry, a_boxStart, a_boxW, a_boxH, a_boxB, pr, pc, g, a_readList, a_seenToken, a_seenTop, a_seenLeft, a_seenBottom, a_seenRight, a_taskKind, a_taskTop, a_taskLeft, a_taskBottom, a_taskRight)) :
    ∀ d j g, j + d = fo_W t i → gi_ok rows cols (fo_pg t n top left) (fun r c => S r c ∨ (r = yy i + fo_H t (fo_f t i) ∧ xx i ≤ c ∧ c < xx i + j)) g → wX_drawFraction_39 post (nI i) (nI (i - 1)) (nI (fo_f t i)) (nI (yy i + fo_H t (fo_f t i))) (nI (xx i)) (d + 1) (nI j) (nI rows) (nI cols) f_room f_entryCount f_open f_readCount f_seenCount f_taskCount f_curTop f_curLeft f_curBottom f_curRight a_entry a_boxStart a_boxW a_boxH a_boxB a_posRow a_posCol g a_readList a_seenToken a_seenTop a_seenLeft a_seenBottom a_seenRight a_taskKind a_taskTop a_taskLeft a_taskBottom a_taskRight := by
  obtain ⟨o1, o2, o3⟩ := fo_op wf hi (by omega)
  obtain ⟨p1, p2, p3, p4⟩ := pl i (by omega) hi (by omega)
  obtain ⟨q1, q2, q3, q4, q5⟩ := fo_D_13 h13 o1
  obtain ⟨g1, g2, g3, g4⟩ := fo_g13 h13
  have lp := fo_L_pos t (i - 1)
  obtain ⟨e1, e2, e3, e4, e5⟩ := ok i hi
  obtain ⟨f1, f2, f3, f4, f5⟩ := ok (fo_f t i) (by omega)
  obtain ⟨s1, s2, s3, s4, s5⟩ := ok (i - 1) (by omega)
  have bi := hb i hi
  have bf := hb (fo_f t i) (by omega)
  have bs := hb (i - 1) (by omega)
  have ci : (nI i).toNatClampNeg = i := nI_clamp (by omega)
  have cf : (nI (fo_f t i)).toNatClampNeg = fo_f t i := nI_clamp (by omega)
  have cs : (nI (i - 1)).toNatClampNeg = i - 1 := nI_clamp (by omega)
  have tf := (wf (fo_f t i) (by omega)).1
  have ts := (wf (i - 1) (by omega)).1
  have ni : vp_in (nI i) 31 := pk_in i 31 (by omega)
  have zs := (fo_sz wf (i - 1) (by omega)).2.2.1
  intro d
  induction d with
  | zero =>
    intro j g hj gi
    refine ⟨ni, ?_⟩
    rw [ci, e3]
    refine br_t (nI_le (by omega) (by omega)) ⟨ni, ni, pk_in (fo_f t i) 31 (by omega), by decide, ?_⟩
    rw [py, cf, f3, xw_d2 (by omega) (by omega), nI_add]
    refine xw_place (op := 13) (sec := 0) h1 h2 (by omega) f1 tf (by omega) (by omega) f3 f4 (by omega) (by rw [fo_pad13]; omega) (by rw [fo_pad13]; omega) gi ?_
    intro pc g' c1 c2 gi1
    refine ⟨ni, pk_in (i - 1) 31 (by omega), by decide, ?_⟩
    rw [cs, e3, s3, xw_d2 (by omega) (by omega), nI_add, nI_1]
    refine xw_place (op := 13) (sec := 1) h1 h2 (by omega) s1 ts (by omega) (by omega) s3 s4 (by omega) (by rw [fo_pad13]; omega) (by rw [fo_pad13]; omega) gi1 ?_
    intro pc2 g2' d1 d2 gi2
    rw [fo_pad13, Nat.add_zero] at c1 d1
    have ef : xx (fo_f t i) = xx i + (fo_W t i - fo_W t (fo_f t i)) / 2 := by rw [p2, g2]
    have es : xx (i - 1) = xx i + (fo_W t i - fo_W t (i - 1)) / 2 := by rw [p4, g4]
    have ey : yy (fo_f t i) = yy i := by rw [p1, g1]; rfl
    have ez : yy (i - 1) = yy i + fo_H t (fo_f t i) + 1 := by rw [p3, g3]; rfl
    rw [← ef] at c1
    rw [← es] at d1
    rw [← ez, ← ey]
    have m1 : pl_mono yy xx a_posRow a_posCol (upd a_posRow (fo_f t i) (nI (yy (fo_f t i)))) pc := pl_place c1 c2
    have m2 : pl_mono yy xx (upd a_posRow (fo_f t i) (nI (yy (fo_f t i)))) pc (upd (upd a_posRow (fo_f t i) (nI (yy (fo_f t i)))) (i - 1) (nI (yy (i - 1)))) pc2 := pl_place d1 d2
    have rf := m2 (fo_f t i) ⟨pk_us, c1⟩
    refine K _ _ _ (pl_mono_t m1 m2) (fun _ => ⟨rf.1, rf.2, pk_us, d1⟩) (gi_sub gi2 ?_)
    intro r c z
    rcases z with z | ⟨z1, z2⟩
    · exact Or.inl (Or.inl (Or.inl z))
    · refine Or.inl (Or.inl (Or.inr ?_))
      rw [fo_pg_chr wf h0 hL pl hy hx hi z1] at z2
      unfold fo_chr at z2
      rw [if_neg (by omega)] at z2
      have z11 := z1.1
      have cv := fo_own_cov pl hi (by omega) z11 z2
      omega
  | succ d ih =>
    intro j g hj gi
    refine ⟨ni, ?_⟩
    rw [ci, e3]
    refine br_f (nI_ge (by omega) (by omega)) ?_
    rw [nI_add]
    refine xw_put h1 h2 (by omega) (by omega) ?_
    refine nm_r (nI_1 j) (ih (j + 1) _ (by omega) ?_)
    have v := fo_pg_R (r := yy i + fo_H t (fo_f t i)) (c := xx i + j) wf h0 hL pl hy hx hi h13 rfl (by omega) (by omega)
    have g1 := gi_put (r0 := yy i + fo_H t (fo_f t i)) (c0 := xx i + j) gi (by omega)
    rw [v] at g1
    refine gi_sub g1 ?_
    intro r c z
    rcases z with z | ⟨z1, z2, z3⟩
    · exact Or.inl (Or.inl z)
    · by_cases q : c = xx i + j
      · exact Or.inr ⟨z1, q⟩
      · exact Or.inl (Or.inr ⟨z1, z2, by omega⟩)
theorem xw_drawFraction {post : SX → Prop} {i : Nat} {S : Nat → Nat → Prop} (h1 : rows ≤ 10) (h2 : cols ≤ 25) (wf : fo_WF t n) (hn : n ≤ 31) (h0 : 0 < n) (hL : fo_L t (n - 1) = n) (pl : fo_Pl t yy xx 0 n) (hy : yy (n - 1) = top) (hx : xx (n - 1) = left) (hb : ∀ j, j < n → yy j + fo_H t j ≤ rows ∧ xx j + fo_W t j ≤ cols) (ok : en_ok t n a_entry a_boxStart a_boxW a_boxH a_boxB) (hi : i < n) (h13 : t i = 13) (py : a_posRow i = nI (yy i)) (px : a_posCol i = nI (xx i)) (gi : gi_ok rows cols (fo_pg t n top left) S a_grid) (K : ∀ pr pc g, pl_mono yy xx a_posRow a_posCol pr pc → (10 ≤ t i → pr (fo_f t i) = nI (yy (fo_f t i)) ∧ pc (fo_f t i) = nI (xx (fo_f t i)) ∧ pr (i - 1) = nI (yy (i - 1)) ∧ pc (i - 1) = nI (xx (i - 1))) → gi_ok rows cols (fo_pg t n top left) (fun r c => S r c ∨ (fo_Own t yy xx i r c ∧ fo_pg t n top left r c ≠ 32)) g → post (nI rows, nI cols, f_room, f_entryCount, f_open, f_readCount, f_seenCount, f_taskCount, f_curTop, f_curLeft, f_curBottom, f_curRight, a_entry, a_boxStart, a_boxW, a_boxH, a_boxB, pr, pc, g, a_readList, a_seenToken, a_seenTop, a_seenLeft, a_seenBottom, a_seenRight, a_taskKind, a_taskTop, a_taskLeft, a_taskBottom, a_taskRight)) : wpX_drawFraction post (nI rows, nI cols, f_room, f_entryCount, f_open, f_readCount, f_seenCount, f_taskCount, f_curTop, f_curLeft, f_curBottom, f_curRight, a_entry, a_boxStart, a_boxW, a_boxH, a_boxB, a_posRow, a_posCol, a_grid, a_readList, a_seenToken, a_seenTop, a_seenLeft, a_seenBottom, a_seenRight, a_taskKind, a_taskTop, a_taskLeft, a_taskBottom, a_taskRight) (nI i) := by
  obtain ⟨o1, o2, o3⟩ := fo_op wf hi (by omega)
  have ls := fo_L_le wf (i - 1) (by omega)
  have lp := fo_L_pos t (i - 1)
  obtain ⟨f1, f2, f3, f4, f5⟩ := ok (fo_f t i) (by omega)
  obtain ⟨s1, s2, s3, s4, s5⟩ := ok (i - 1) (by omega)
  have ci : (nI i).toNatClampNeg = i := nI_clamp (by omega)
  have cf : (nI (fo_f t i)).toNatClampNeg = fo_f t i := nI_clamp (by omega)
  have cs : (nI (i - 1)).toNatClampNeg = i - 1 := nI_clamp (by omega)
  have ni : vp_in (nI i) 31 := pk_in i 31 (by omega)
  unfold wpX_drawFraction
  refine nm_r (xw_pr o1) ⟨pk_in (i - 1) 31 (by omega), nm_r (e' := nI (fo_f t i)) (by rw [cs, s2, show fo_f t i = i - 1 + 1 - fo_L t (i - 1) - 1 by omega]; exact xw_pr (by omega)) ?_⟩
  refine ⟨ni, pk_in (fo_f t i) 31 (by omega), nm_r (e' := nI (yy i + fo_H t (fo_f t i))) (by rw [ci, cf, py, f4, nI_add]) ⟨ni, nm_r (e' := nI (xx i)) (by rw [ci, px]) ?_⟩⟩
  refine ⟨fo_W t i + 1, xw_df39 h1 h2 wf hn h0 hL pl hy hx hb ok hi h13 py px K (fo_W t i) 0 a_grid (by omega) (gi_sub gi ?_)⟩
  intro r c z
  rcases z with z | z
  · exact z
  · omega
theorem xw_drawPower {post : SX → Prop} {i : Nat} {S : Nat → Nat → Prop} (h1 : rows ≤ 10) (h2 : cols ≤ 25) (wf : fo_WF t n) (hn : n ≤ 31) (h0 : 0 < n) (hL : fo_L t (n - 1) = n) (pl : fo_Pl t yy xx 0 n) (hy : yy (n - 1) = top) (hx : xx (n - 1) = left) (hb : ∀ j, j < n → yy j + fo_H t j ≤ rows ∧ xx j + fo_W t j ≤ cols) (ok : en_ok t n a_entry a_boxStart a_boxW a_boxH a_boxB) (hi : i < n) (h14 : t i = 14) (py : a_posRow i = nI (yy i)) (px : a_posCol i = nI (xx i)) (gi : gi_ok rows cols (fo_pg t n top left) S a_grid) (K : ∀ pr pc g, pl_mono yy xx a_posRow a_posCol pr pc → (10 ≤ t i → pr (fo_f t i) = nI (yy (fo_f t i)) ∧ pc (fo_f t i) = nI (xx (fo_f t i)) ∧ pr (i - 1) = nI (yy (i - 1)) ∧ pc (i - 1) = nI (xx (i - 1))) → gi_ok rows cols (fo_pg t n top left) (fun r c => S r c ∨ (fo_Own t yy xx i r c ∧ fo_pg t n top left r c ≠ 32)) g → post (nI rows, nI cols, f_room, f_entryCount, f_open, f_readCount, f_seenCount, f_taskCount, f_curTop, f_curLeft, f_curBottom, f_curRight, a_entry, a_boxStart, a_boxW, a_boxH, a_boxB, pr, pc, g, a_readList, a_seenToken, a_seenTop, a_seenLeft, a_seenBottom, a_seenRight, a_taskKind, a_taskTop, a_taskLeft, a_taskBottom, a_taskRight)) : wpX_drawPower post (nI rows, nI cols, f_room, f_entryCount, f_open, f_readCount, f_seenCount, f_taskCount, f_curTop, f_curLeft, f_curBottom, f_curRight, a_entry, a_boxStart, a_boxW, a_boxH, a_boxB, a_posRow, a_posCol, a_grid, a_readList, a_seenToken, a_seenTop, a_seenLeft, a_seenBottom, a_seenRight, a_taskKind, a_taskTop, a_taskLeft, a_taskBottom, a_taskRight) (nI i) := by
  obtain ⟨o1, o2, o3⟩ := fo_op wf hi (by omega)
  obtain ⟨p1, p2, p3, p4⟩ := pl i (by omega) hi (by omega)
  obtain ⟨q2, q3, q4, q5⟩ := fo_D_14 h14 o1
  obtain ⟨g1, g2, g3, g4⟩ := fo_g14 h14
  have ls := fo_L_le wf (i - 1) (by omega)
  have lp := fo_L_pos t (i - 1)
  obtain ⟨f1, f2, f3, f4, f5⟩ := ok (fo_f t i) (by omega)
  obtain ⟨s1, s2, s3, s4, s5⟩ := ok (i - 1) (by omega)
  have ci : (nI i).toNatClampNeg = i := nI_clamp (by omega)
  have cf : (nI (fo_f t i)).toNatClampNeg = fo_f t i := nI_clamp (by omega)
  have cs : (nI (i - 1)).toNatClampNeg = i - 1 := nI_clamp (by omega)
  have ni : vp_in (nI i) 31 := pk_in i 31 (by omega)
  have nis : vp_in (nI (i - 1)) 31 := pk_in (i - 1) 31 (by omega)
  have bi := hb i hi
  have bf := hb (fo_f t i) (by omega)
  have bs := hb (i - 1) (by omega)
  have tf := (wf (fo_f t i) (by omega)).1
  have ts := (wf (i - 1) (by omega)).1
  have pa := fo_pA_le t i
  have ea : fo_pad 14 (t (fo_f t i)) 0 = fo_pA t i := by unfold fo_pA; rw [h14]
  unfold wpX_drawPower
  refine nm_r (xw_pr o1) ⟨nis, nm_r (e' := nI (fo_f t i)) (by rw [cs, s2, show fo_f t i = i - 1 + 1 - fo_L t (i - 1) - 1 by omega]; exact xw_pr (by omega)) ⟨ni, ?_⟩⟩
  refine xw_outer (op := 14) (sec := 0) (by omega) f1 (by omega) (by omega) (by omega) f3 ?_
  refine nm_r (e' := nI (xx (i - 1))) (by rw [ci, px, nI_add, ea, p4, g4]) ⟨ni, nis, ni, ?_⟩
  rw [ci, cs, py, px, s4, nI_add]
  refine xw_place (op := 14) (sec := 0) h1 h2 (by omega) f1 tf (by omega) (by omega) f3 f4 (by omega) (by rw [ea]; omega) ?_ gi ?_
  · intro z r r1 r2
    rw [ea] at z
    obtain ⟨x1, x2, x3⟩ := fo_pg_A (r := r) wf h0 hL pl hy hx hi (by omega) z (by omega) (by omega)
    rw [show xx (fo_f t i) - 1 = xx i by omega] at x2
    rw [show xx (fo_f t i) + fo_W t (fo_f t i) = xx i + fo_W t (fo_f t i) + 1 by omega] at x3
    exact ⟨x2, x3⟩
  intro pc g' c1 c2 gi1
  rw [ea] at c1 gi1
  refine ⟨ni, ?_⟩
  rw [pk_un (by omega), py]
  refine xw_place (op := 14) (sec := 1) h1 h2 (by omega) s1 ts (by omega) (by omega) s3 s4 (by omega) (by rw [fo_pad14B]; omega) (by rw [fo_pad14B]; omega) gi1 ?_
  intro pc2 g2' d1 d2 gi2
  rw [fo_pad14B, Nat.add_zero] at d1
  have ex : xx (fo_f t i) = xx i + fo_pA t i := by rw [p2, g2]
  have ey : yy (fo_f t i) = yy i + fo_H t (i - 1) := by rw [p1, g1]
  have ez : yy (i - 1) = yy i := by rw [p3, g3]; rfl
  rw [← ex] at c1
  rw [← ey, ← ez]
  have m1 : pl_mono yy xx a_posRow a_posCol (upd a_posRow (fo_f t i) (nI (yy (fo_f t i)))) pc := pl_place c1 c2
  have m2 : pl_mono yy xx (upd a_posRow (fo_f t i) (nI (yy (fo_f t i)))) pc (upd (upd a_posRow (fo_f t i) (nI (yy (fo_f t i)))) (i - 1) (nI (yy (i - 1)))) pc2 := pl_place d1 d2
  have rf := m2 (fo_f t i) ⟨pk_us, c1⟩
  refine K _ _ _ (pl_mono_t m1 m2) (fun _ => ⟨rf.1, rf.2, pk_us, d1⟩) (gi_sub gi2 ?_)
  intro r c z
  rcases z with z | ⟨z1, z2⟩
  · exact Or.inl (Or.inl z)
  · refine Or.inl (Or.inr ?_)
    rw [fo_pg_chr wf h0 hL pl hy hx hi z1] at z2
    unfold fo_chr at z2
    rw [if_neg (by omega)] at z2
    have z11 := z1.1
    have cv := fo_own_cov pl hi (by omega) z11 z2
    omega
theorem xw_drawChain {post : SX → Prop} {i : Nat} {S : Nat → Nat → Prop} (h1 : rows ≤ 10) (h2 : cols ≤ 25) (wf : fo_WF t n) (hn : n ≤ 31) (h0 : 0 < n) (hL : fo_L t (n - 1) = n) (pl : fo_Pl t yy xx 0 n) (hy : yy (n - 1) = top) (hx : xx (n - 1) = left) (hb : ∀ j, j < n → yy j + fo_H t j ≤ rows ∧ xx j + fo_W t j ≤ cols) (ok : en_ok t n a_entry a_boxStart a_boxW a_boxH a_boxB) (hi : i < n) (h10 : 10 ≤ t i) (h12 : t i ≤ 12) (py : a_posRow i = nI (yy i)) (px : a_posCol i = nI (xx i)) (gi : gi_ok rows cols (fo_pg t n top left) S a_grid) (K : ∀ pr pc g, pl_mono yy xx a_posRow a_posCol pr pc → (10 ≤ t i → pr (fo_f t i) = nI (yy (fo_f t i)) ∧ pc (fo_f t i) = nI (xx (fo_f t i)) ∧ pr (i - 1) = nI (yy (i - 1)) ∧ pc (i - 1) = nI (xx (i - 1))) → gi_ok rows cols (fo_pg t n top left) (fun r c => S r c ∨ (fo_Own t yy xx i r c ∧ fo_pg t n top left r c ≠ 32)) g → post (nI rows, nI cols, f_room, f_entryCount, f_open, f_readCount, f_seenCount, f_taskCount, f_curTop, f_curLeft, f_curBottom, f_curRight, a_entry, a_boxStart, a_boxW, a_boxH, a_boxB, pr, pc, g, a_readList, a_seenToken, a_seenTop, a_seenLeft, a_seenBottom, a_seenRight, a_taskKind, a_taskTop, a_taskLeft, a_taskBottom, a_taskRight)) : wpX_drawChain post (nI rows, nI cols, f_room, f_entryCount, f_open, f_readCount, f_seenCount, f_taskCount, f_curTop, f_curLeft, f_curBottom, f_curRight, a_entry, a_boxStart, a_boxW, a_boxH, a_boxB, a_posRow, a_posCol, a_grid, a_readList, a_seenToken, a_seenTop, a_seenLeft, a_seenBottom, a_seenRight, a_taskKind, a_taskTop, a_taskLeft, a_taskBottom, a_taskRight) (nI i) := by
  obtain ⟨o1, o2, o3⟩ := fo_op wf hi (by omega)
  obtain ⟨p1, p2, p3, p4⟩ := pl i (by omega) hi (by omega)
  obtain ⟨q3, q4, q5⟩ := fo_D_c h10 h12 o1
  obtain ⟨g1, g2, g3, g4⟩ := fo_gc (t := t) (i := i) h12
  have lbf : fo_B t (fo_f t i) ≤ fo_B t i := by omega
  have lbs : fo_B t (i - 1) ≤ fo_B t i := by omega
  clear q4 q5
  have ls := fo_L_le wf (i - 1) (by omega)
  have lp := fo_L_pos t (i - 1)
  have zi := (fo_sz wf i hi).2.2.1
  obtain ⟨e1, e2, e3, e4, e5⟩ := ok i hi
  obtain ⟨f1, f2, f3, f4, f5⟩ := ok (fo_f t i) (by omega)
  obtain ⟨s1, s2, s3, s4, s5⟩ := ok (i - 1) (by omega)
  have ci : (nI i).toNatClampNeg = i := nI_clamp (by omega)
  have cf : (nI (fo_f t i)).toNatClampNeg = fo_f t i := nI_clamp (by omega)
  have cs : (nI (i - 1)).toNatClampNeg = i - 1 := nI_clamp (by omega)
  have ni : vp_in (nI i) 31 := pk_in i 31 (by omega)
  have nis : vp_in (nI (i - 1)) 31 := pk_in (i - 1) 31 (by omega)
  have nif : vp_in (nI (fo_f t i)) 31 := pk_in (fo_f t i) 31 (by omega)
  have bi := hb i hi
  have bf := hb (fo_f t i) (by omega)
  have bs := hb (i - 1) (by omega)
  have tf := (wf (fo_f t i) (by omega)).1
  have ts := (wf (i - 1) (by omega)).1
  have pa := fo_pA_le t i
  have pb := fo_pB_le t i
  have ea : fo_pad (t i) (t (fo_f t i)) 0 = fo_pA t i := rfl
  have eb : fo_pad (t i) (t (i - 1)) 1 = fo_pB t i := rfl
  unfold wpX_drawChain
  refine ⟨ni, nm_r (e' := nI (t i)) (by rw [ci]; exact e1) (nm_r (xw_pr o1) ⟨nis, nm_r (e' := nI (fo_f t i)) (by rw [cs, s2, show fo_f t i = i - 1 + 1 - fo_L t (i - 1) - 1 by omega]; exact xw_pr (by omega)) ⟨ni, ni, nm_r (e' := nI (yy i + fo_B t i)) (by rw [ci, py, e5, nI_add]) ⟨ni, ?_⟩⟩⟩)⟩
  refine xw_outer (sec := 0) (by omega) f1 (by omega) (by omega) (by omega) f3 ?_
  refine nm_r (e' := nI (xx i + (fo_W t (fo_f t i) + 2 * fo_pA t i))) (by rw [ci, px, nI_add, ea]) ?_
  refine xw_codeOf (by omega) ?_
  refine ⟨nif, ni, ?_⟩
  rw [ci, cf, px, f5, pk_sub (by omega)]
  refine xw_place (sec := 0) h1 h2 (by omega) f1 tf (by omega) (by omega) f3 f4 (by omega) (by rw [ea]; omega) ?_ gi ?_
  · intro z r r1 r2
    rw [ea] at z
    obtain ⟨x1, x2, x3⟩ := fo_pg_A (r := r) wf h0 hL pl hy hx hi (by omega) z (by omega) (by omega)
    rw [show xx (fo_f t i) - 1 = xx i by omega] at x2
    rw [show xx (fo_f t i) + fo_W t (fo_f t i) = xx i + fo_W t (fo_f t i) + 1 by omega] at x3
    exact ⟨x2, x3⟩
  intro pc g' c1 c2 gi1
  rw [ea] at c1 gi1
  refine xw_put h1 h2 (by omega) (by omega) ?_
  have vS := fo_pg_S (r := yy i + fo_B t i) (c := xx i + (fo_W t (fo_f t i) + 2 * fo_pA t i)) wf h0 hL pl hy hx hi h10 h12 rfl rfl
  have gi2 := gi_put (r0 := yy i + fo_B t i) (c0 := xx i + (fo_W t (fo_f t i) + 2 * fo_pA t i)) gi1 (by omega)
  rw [vS] at gi2
  refine ⟨nis, ?_⟩
  rw [cs, s5, pk_sub (by omega), nI_1]
  refine xw_place (sec := 1) h1 h2 (by omega) s1 ts (by omega) (by omega) s3 s4 (by omega) (by rw [eb]; omega) ?_ gi2 ?_
  · intro z r r1 r2
    rw [eb] at z
    obtain ⟨x1, x2, x3⟩ := fo_pg_B (r := r) wf h0 hL pl hy hx hi (by omega) z (by omega) (by omega)
    rw [show xx (i - 1) - 1 = xx i + (fo_W t (fo_f t i) + 2 * fo_pA t i) + 1 by omega] at x2
    rw [show xx (i - 1) + fo_W t (i - 1) = xx i + (fo_W t (fo_f t i) + 2 * fo_pA t i) + 1 + fo_W t (i - 1) + 1 by omega] at x3
    exact ⟨x2, x3⟩
  intro pc2 g2' d1 d2 gi3
  rw [eb] at d1 gi3
  have ex : xx (fo_f t i) = xx i + fo_pA t i := by rw [p2, g2]
  have ex2 : xx (i - 1) = xx i + (fo_W t (fo_f t i) + 2 * fo_pA t i) + 1 + fo_pB t i := by rw [p4, g4]; omega
  have ey : yy (fo_f t i) = yy i + fo_B t i - fo_B t (fo_f t i) := by rw [p1, g1]; omega
  have ez : yy (i - 1) = yy i + fo_B t i - fo_B t (i - 1) := by rw [p3, g3]; omega
  rw [← ex] at c1
  rw [← ex2] at d1
  rw [← ey, ← ez]
  have m1 : pl_mono yy xx a_posRow a_posCol (upd a_posRow (fo_f t i) (nI (yy (fo_f t i)))) pc := pl_place c1 c2
  have m2 : pl_mono yy xx (upd a_posRow (fo_f t i) (nI (yy (fo_f t i)))) pc (upd (upd a_posRow (fo_f t i) (nI (yy (fo_f t i)))) (i - 1) (nI (yy (i - 1)))) pc2 := pl_place d1 d2
  have rf := m2 (fo_f t i) ⟨pk_us, c1⟩
  refine K _ _ _ (pl_mono_t m1 m2) (fun _ => ⟨rf.1, rf.2, pk_us, d1⟩) (gi_sub gi3 ?_)
  intro r c z
  rcases z with z | ⟨z1, z2⟩
  · exact Or.inl (Or.inl (Or.inl z))
  · rw [fo_pg_chr wf h0 hL pl hy hx hi z1] at z2
    unfold fo_chr at z2
    rw [if_neg (by omega)] at z2
    have z11 := z1.1
    have cv := fo_own_cov pl hi (by omega) z11 z2
    rcases cv with cv | cv | cv | cv
    · omega
    · exact Or.inl (Or.inr (by omega))
    · exact Or.inl (Or.inl (Or.inr (by omega)))
    · exact Or.inr (by omega)
theorem xw_drawNode {post : SX → Prop} {i : Nat} {S : Nat → Nat → Prop} (h1 : rows ≤ 10) (h2 : cols ≤ 25) (wf : fo_WF t n) (hn : n ≤ 31) (h0 : 0 < n) (hL : fo_L t (n - 1) = n) (pl : fo_Pl t yy xx 0 n) (hy : yy (n - 1) = top) (hx : xx (n - 1) = left) (hb : ∀ j, j < n → yy j + fo_H t j ≤ rows ∧ xx j + fo_W t j ≤ cols) (ok : en_ok t n a_entry a_boxStart a_boxW a_boxH a_boxB) (hi : i < n) (py : a_posRow i = nI (yy i)) (px : a_posCol i = nI (xx i)) (gi : gi_ok rows cols (fo_pg t n top left) S a_grid) (K : ∀ pr pc g, pl_mono yy xx a_posRow a_posCol pr pc → (10 ≤ t i → pr (fo_f t i) = nI (yy (fo_f t i)) ∧ pc (fo_f t i) = nI (xx (fo_f t i)) ∧ pr (i - 1) = nI (yy (i - 1)) ∧ pc (i - 1) = nI (xx (i - 1))) → gi_ok rows cols (fo_pg t n top left) (fun r c => S r c ∨ (fo_Own t yy xx i r c ∧ fo_pg t n top left r c ≠ 32)) g → post (nI rows, nI cols, f_room, f_entryCount, f_open, f_readCount, f_seenCount, f_taskCount, f_curTop, f_curLeft, f_curBottom, f_curRight, a_entry, a_boxStart, a_boxW, a_boxH, a_boxB, pr, pc, g, a_readList, a_seenToken, a_seenTop, a_seenLeft, a_seenBottom, a_seenRight, a_taskKind, a_taskTop, a_taskLeft, a_taskBottom, a_taskRight)) : wpX_drawNode post (nI rows, nI cols, f_room, f_entryCount, f_open, f_readCount, f_seenCount, f_taskCount, f_curTop, f_curLeft, f_curBottom, f_curRight, a_entry, a_boxStart, a_boxW, a_boxH, a_boxB, a_posRow, a_posCol, a_grid, a_readList, a_seenToken, a_seenTop, a_seenLeft, a_seenBottom, a_seenRight, a_taskKind, a_taskTop, a_taskLeft, a_taskBottom, a_taskRight) (nI i) := by
  have h14 := (wf i hi).1
  have ci : (nI i).toNatClampNeg = i := nI_clamp (by omega)
  have ni : vp_in (nI i) 31 := pk_in i 31 (by omega)
  have bi := hb i hi
  unfold wpX_drawNode
  refine ⟨ni, nm_r (e' := nI (t i)) (by rw [ci]; exact (ok i hi).1) ?_⟩
  refine pk_le 10 (t i) (fun z => pk_eq (t i) 13 (fun z1 => ?_) (fun z1 => pk_eq (t i) 14 (fun z2 => ?_) (fun z2 => ?_))) (fun z => ⟨ni, ni, ?_⟩)
  · exact xw_drawFraction h1 h2 wf hn h0 hL pl hy hx hb ok hi z1 py px gi K
  · exact xw_drawPower h1 h2 wf hn h0 hL pl hy hx hb ok hi z2 py px gi K
  · exact xw_drawChain h1 h2 wf hn h0 hL pl hy hx hb ok hi z (by omega) py px gi K
  · obtain ⟨a, b, c⟩ := fo_D_d z
    rw [ci, py, px, show (48 : Int32) + nI (t i) = nI (48 + t i) from nI_add 48 _]
    refine xw_put h1 h2 (by omega) (by omega) ?_
    have v := fo_pg_d wf h0 hL pl hy hx hi z
    have g1 := gi_put (r0 := yy i) (c0 := xx i) gi (by omega)
    rw [v] at g1
    refine K _ _ _ (pl_mono_r _ _ _ _) (fun q => absurd q (by omega)) (gi_sub g1 ?_)
    intro r c q
    rcases q with q | ⟨q1, q2⟩
    · exact Or.inl q
    · have := q1.1
      exact Or.inr (by omega)
end
section
variable {f_rows f_cols f_room f_entryCount f_open f_readCount f_seenCount f_taskCount f_curTop f_curLeft f_curBottom f_curRight : Int32} {a_entry a_boxStart a_boxW a_boxH a_boxB a_readList a_seenToken a_seenTop a_seenLeft a_seenBottom a_seenRight a_taskKind a_taskTop a_taskLeft a_taskBottom a_taskRight : Nat → Int32}
variable {t yy xx : Nat → Nat} {n top left rows cols : Nat}
theorem xw_pt_r {post : Int32 → SX → Prop} (h1 : rows ≤ 10) (h2 : cols ≤ 25) (wf : fo_WF t n) (hn : n ≤ 31) (h0 : 0 < n) (hL : fo_L t (n - 1) = n) (pl : fo_Pl t yy xx 0 n) (hy : yy (n - 1) = top) (hx : xx (n - 1) = left) (hb : ∀ j, j < n → yy j + fo_H t j ≤ rows ∧ xx j + fo_W t j ≤ cols) (ok : en_ok t n a_entry a_boxStart a_boxW a_boxH a_boxB) : ∀ i, i < n → ∀ k (S : Nat → Nat → Prop) pr pc g, pr i = nI (yy i) → pc i = nI (xx i) → gi_ok rows cols (fo_pg t n top left) S g →
    (∀ pr' pc' g', pl_mono yy xx pr pc pr' pc' → gi_ok rows cols (fo_pg t n top left) (fun r c => S r c ∨ ∃ j, j ≤ i ∧ i < j + fo_L t i ∧ fo_Own t yy xx j r c ∧ fo_pg t n top left r c ≠ 32) g' → wX_paint_79 post k (nI (i + 1 - fo_L t i) + (-1)) (nI rows) (nI cols) f_room f_entryCount f_open f_readCount f_seenCount f_taskCount f_curTop f_curLeft f_curBottom f_curRight a_entry a_boxStart a_boxW a_boxH a_boxB pr' pc' g' a_readList a_seenToken a_seenTop a_seenLeft a_seenBottom a_seenRight a_taskKind a_taskTop a_taskLeft a_taskBottom a_taskRight) →
    wX_paint_79 post (k + fo_L t i) (nI (i + 1) + (-1)) (nI rows) (nI cols) f_room f_entryCount f_open f_readCount f_seenCount f_taskCount f_curTop f_curLeft f_curBottom f_curRight a_entry a_boxStart a_boxW a_boxH a_boxB pr pc g a_readList a_seenToken a_seenTop a_seenLeft a_seenBottom a_seenRight a_taskKind a_taskTop a_taskLeft a_taskBottom a_taskRight := by
  refine fo_ind wf ?_ ?_
  · intro i hi d k S pr pc g py px gi K
    rw [fo_L_d d, pk_m1]
    unfold wX_paint_79
    refine br_f (nI_pos (by omega)) ?_
    refine xw_drawNode h1 h2 wf hn h0 hL pl hy hx hb ok hi py px gi ?_
    intro pr' pc' g' m _ gi'
    refine nm_e ?_
    have := K pr' pc' g' m (gi_sub gi' ?_)
    · rw [fo_L_d d] at this
      exact this
    · intro r c z
      rcases z with z | ⟨j, j1, j2, j3, j4⟩
      · exact Or.inl z
      · rw [fo_L_d d] at j2
        rw [show j = i by omega] at j3
        exact Or.inr ⟨j3, j4⟩
  · intro i hi h10 h14 o1 o2 o3 a b k S pr pc g py px gi K
    have lf := fo_L_le wf (fo_f t i) (by omega)
    rw [pk_m1, o3, show k + (1 + fo_L t (i - 1) + fo_L t (fo_f t i)) = k + fo_L t (fo_f t i) + fo_L t (i - 1) + 1 by omega]
    unfold wX_paint_79
    refine br_f (nI_pos (by omega)) ?_
    refine xw_drawNode h1 h2 wf hn h0 hL pl hy hx hb ok hi py px gi ?_
    intro pr1 pc1 g1 m1 q gi1
    obtain ⟨yf, xf, ys, xs⟩ := q h10
    refine nm_e ?_
    have b' := b (k + fo_L t (fo_f t i)) _ pr1 pc1 g1 ys xs gi1
    rw [show i - 1 + 1 = i by omega] at b'
    refine b' ?_
    intro pr2 pc2 g2 m2 gi2
    rw [show i - fo_L t (i - 1) = fo_f t i + 1 by omega]
    have q2 := m2 _ ⟨yf, xf⟩
    refine a k _ pr2 pc2 g2 q2.1 q2.2 gi2 ?_
    intro pr3 pc3 g3 m3 gi3
    have K' := K pr3 pc3 g3 (pl_mono_t m1 (pl_mono_t m2 m3)) (gi_sub gi3 ?_)
    · rw [show i + 1 - fo_L t i = fo_f t i + 1 - fo_L t (fo_f t i) by omega] at K'
      exact K'
    · intro r c z
      rcases z with z | ⟨j, j1, j2, j3, j4⟩
      · exact Or.inl (Or.inl (Or.inl z))
      · by_cases e : j = i
        · rw [e] at j3
          exact Or.inl (Or.inl (Or.inr ⟨j3, j4⟩))
        · by_cases w : j ≤ fo_f t i
          · exact Or.inr ⟨j, w, by omega, j3, j4⟩
          · exact Or.inl (Or.inr ⟨j, by omega, by omega, j3, j4⟩)
end
end
section
/-! the component: the ink of a region -/
def gd_ok (rows cols : Nat) (G : Nat → Nat → Nat) (g : Nat → Int32) : Prop := ∀ r c, r < rows → c < cols → g (r * cols + c) = nI (G r c)
/-- a region that holds one picture -/
def fo_Reg (G : Nat → Nat → Nat) (T L Bt R y x h w : Nat) (g : Nat → Nat → Nat) : Prop :=
  (T ≤ y ∧ y + h ≤ Bt + 1 ∧ L ≤ x ∧ x + w ≤ R + 1) ∧ (∀ r c, r < h → c < w → G (y + r) (x + c) = g r c) ∧ (∀ r c, T ≤ r → r ≤ Bt → L ≤ c → c ≤ R → ¬ fo_in y x h w r c → G r c = 32)
def tr_inv (G : Nat → Nat → Nat) (T L R y x h w r c : Nat) (x1 x2 x3 x4 : Int32) : Prop :=
  ((y : Int) ≤ x1.toInt ∧ (x : Int) ≤ x2.toInt ∧ x3.toInt < (y : Int) + h ∧ x4.toInt < (x : Int) + w) ∧
  ∀ r' c' : Nat, T ≤ r' → L ≤ c' → c' ≤ R → (r' < r ∨ (r' = r ∧ c' < c)) → G r' c' ≠ 32 → x1.toInt ≤ r' ∧ x2.toInt ≤ c' ∧ (r' : Int) ≤ x3.toInt ∧ (c' : Int) ≤ x4.toInt
section
variable {f_rows f_cols f_room f_entryCount f_open f_readCount f_seenCount f_taskCount f_curTop f_curLeft f_curBottom f_curRight : Int32} {a_entry a_boxStart a_boxW a_boxH a_boxB a_posRow a_posCol a_grid a_readList a_seenToken a_seenTop a_seenLeft a_seenBottom a_seenRight a_taskKind a_taskTop a_taskLeft a_taskBottom a_taskRight : Nat → Int32}
variable {G : Nat → Nat → Nat} {rows cols : Nat}
theorem xw_cellG {post : Int32 → Prop} {r c : Nat} (h1 : rows ≤ 10) (h2 : cols ≤ 25) (gd : gd_ok rows cols G a_grid) (hr : r < rows) (hc : c < cols) (hp : post (nI (G r c))) : wpX_cell post (nI rows, nI cols, f_room, f_entryCount, f_open, f_readCount, f_seenCount, f_taskCount, f_curTop, f_curLeft, f_curBottom, f_curRight, a_entry, a_boxStart, a_boxW, a_boxH, a_boxB, a_posRow, a_posCol, a_grid, a_readList, a_seenToken, a_seenTop, a_seenLeft, a_seenBottom, a_seenRight, a_taskKind, a_taskTop, a_taskLeft, a_taskBottom, a_taskRight) (nI r) (nI c) := by
  refine xw_cell h1 h2 hr hc ?_
  rw [gd r c hr hc]; exact hp
theorem tr_70 {post : Int32 → SX → Prop} {J21 J36 : Int32 → Int32 → Int32 → Int32 → Int32 → Prop} {T L R y x h w r c : Nat} {x1 x2 x3 x4 : Int32} (hr : r < 1000) (hc : c < 1000) (hT : T ≤ r) (hL : L ≤ c) (hR : c ≤ R)
    (hin : fo_in y x h w r c) (I : tr_inv G T L R y x h w r c x1 x2 x3 x4)
    (J : ∀ a b d e, tr_inv G T L R y x h w r (c + 1) a b d e → J36 a b d e (nI (c + 1))) :
    ((x1 ≤ nI r → wX_trim_70 post J21 J36 x2 x4 (nI r) (nI c) x1 f_rows f_cols f_room f_entryCount f_open f_readCount f_seenCount f_taskCount f_curTop f_curLeft f_curBottom f_curRight a_entry a_boxStart a_boxW a_boxH a_boxB a_posRow a_posCol a_grid a_readList a_seenToken a_seenTop a_seenLeft a_seenBottom a_seenRight a_taskKind a_taskTop a_taskLeft a_taskBottom a_taskRight) ∧ (¬ x1 ≤ nI r → wX_trim_70 post J21 J36 x2 x4 (nI r) (nI c) (nI r) f_rows f_cols f_room f_entryCount f_open f_readCount f_seenCount f_taskCount f_curTop f_curLeft f_curBottom f_curRight a_entry a_boxStart a_boxW a_boxH a_boxB a_posRow a_posCol a_grid a_readList a_seenToken a_seenTop a_seenLeft a_seenBottom a_seenRight a_taskKind a_taskTop a_taskLeft a_taskBottom a_taskRight)) := by
  have er : (nI r).toInt = (r : Int) := nI_toInt (by omega)
  have ec : (nI c).toInt = (c : Int) := nI_toInt (by omega)
  obtain ⟨⟨b1, b2, b3, b4⟩, I⟩ := I
  have F : ∀ a b e : Int32, (a = x1 ∧ x1.toInt ≤ r ∨ a = nI r ∧ (r : Int) < x1.toInt) → (b = x2 ∧ x2.toInt ≤ c ∨ b = nI c ∧ (c : Int) < x2.toInt) → (e = x4 ∧ (c : Int) ≤ x4.toInt ∨ e = nI c ∧ x4.toInt < c) → J36 a b (nI r) e (nI (c + 1)) := by
    intro a b e ha hb he
    have fa : a.toInt ≤ x1.toInt ∧ a.toInt ≤ r ∧ (y : Int) ≤ a.toInt := by
      rcases ha with ⟨q1, q2⟩ | ⟨q1, q2⟩
      · rw [q1]; omega
      · rw [q1, er]; omega
    have fb : b.toInt ≤ x2.toInt ∧ b.toInt ≤ c ∧ (x : Int) ≤ b.toInt := by
      rcases hb with ⟨q1, q2⟩ | ⟨q1, q2⟩
      · rw [q1]; omega
      · rw [q1, ec]; omega
    have fe : x4.toInt ≤ e.toInt ∧ (c : Int) ≤ e.toInt ∧ e.toInt < (x : Int) + w := by
      rcases he with ⟨q1, q2⟩ | ⟨q1, q2⟩
      · rw [q1]; omega
      · rw [q1, ec]; omega
    refine J _ _ _ _ ⟨⟨by omega, by omega, by rw [er]; omega, by omega⟩, ?_⟩
    intro r' c' t1 t2 t3 t4 t5
    rw [er]
    by_cases q : r' < r ∨ (r' = r ∧ c' < c)
    · have := I r' c' t1 t2 t3 q t5
      omega
    · have e1 : r' = r := by omega
      have e2 : c' = c := by omega
      omega
  have G83 : ∀ a b : Int32, (a = x1 ∧ x1.toInt ≤ r ∨ a = nI r ∧ (r : Int) < x1.toInt) → (b = x2 ∧ x2.toInt ≤ c ∨ b = nI c ∧ (c : Int) < x2.toInt) → wX_trim_83 post J21 J36 a x4 (nI r) (nI c) b f_rows f_cols f_room f_entryCount f_open f_readCount f_seenCount f_taskCount f_curTop f_curLeft f_curBottom f_curRight a_entry a_boxStart a_boxW a_boxH a_boxB a_posRow a_posCol a_grid a_readList a_seenToken a_seenTop a_seenLeft a_seenBottom a_seenRight a_taskKind a_taskTop a_taskLeft a_taskBottom a_taskRight := by
    intro a b ha hb
    refine br_c (fun z => nm_r (nI_1 c) (F a b x4 ha hb (Or.inl ⟨rfl, ?_⟩))) (fun z => nm_r (nI_1 c) (F a b (nI c) ha hb (Or.inr ⟨rfl, ?_⟩)))
    · rw [Int32.le_iff_toInt_le, ec] at z; exact z
    · rw [Int32.le_iff_toInt_le, ec] at z; omega
  have G70 : ∀ a : Int32, (a = x1 ∧ x1.toInt ≤ r ∨ a = nI r ∧ (r : Int) < x1.toInt) → wX_trim_70 post J21 J36 x2 x4 (nI r) (nI c) a f_rows f_cols f_room f_entryCount f_open f_readCount f_seenCount f_taskCount f_curTop f_curLeft f_curBottom f_curRight a_entry a_boxStart a_boxW a_boxH a_boxB a_posRow a_posCol a_grid a_readList a_seenToken a_seenTop a_seenLeft a_seenBottom a_seenRight a_taskKind a_taskTop a_taskLeft a_taskBottom a_taskRight := by
    intro a ha
    refine br_c (fun z => G83 a x2 ha (Or.inl ⟨rfl, ?_⟩)) (fun z => G83 a (nI c) ha (Or.inr ⟨rfl, ?_⟩))
    · rw [Int32.le_iff_toInt_le, ec] at z; exact z
    · rw [Int32.le_iff_toInt_le, ec] at z; omega
  refine br_c (fun z => G70 x1 (Or.inl ⟨rfl, ?_⟩)) (fun z => G70 (nI r) (Or.inr ⟨rfl, ?_⟩))
  · rw [Int32.le_iff_toInt_le, er] at z; exact z
  · rw [Int32.le_iff_toInt_le, er] at z; omega
theorem tr_36 {post : Int32 → SX → Prop} {J21 : Int32 → Int32 → Int32 → Int32 → Int32 → Prop} {T L R Bt y x h w r : Nat} {g : Nat → Nat → Nat} (h1 : rows ≤ 10) (h2 : cols ≤ 25) (gd : gd_ok rows cols G a_grid) (hG : ∀ r c, G r c < 1000) (reg : fo_Reg G T L Bt R y x h w g) (hR : R < cols) (hr : r < rows) (hT : T ≤ r) (hB : r ≤ Bt)
    (J : ∀ a b d e, tr_inv G T L R y x h w r (R + 1) a b d e → J21 a b d e (nI (r + 1))) :
    ∀ d c x1 x2 x3 x4, L ≤ c → c + d = R + 1 → tr_inv G T L R y x h w r c x1 x2 x3 x4 → wX_trim_36 post J21 (nI r) (nI rows) (nI cols) f_room f_entryCount f_open f_readCount f_seenCount f_taskCount f_curTop f_curLeft f_curBottom (nI R) a_entry a_boxStart a_boxW a_boxH a_boxB a_posRow a_posCol a_grid a_readList a_seenToken a_seenTop a_seenLeft a_seenBottom a_seenRight a_taskKind a_taskTop a_taskLeft a_taskBottom a_taskRight (d + 1) x1 x2 x3 x4 (nI c) := by
  intro d
  induction d with
  | zero =>
    intro c x1 x2 x3 x4 hL hc I
    refine br_t (nI_lt (by omega) (by omega)) (nm_r (nI_1 r) (J _ _ _ _ ?_))
    rw [show c = R + 1 by omega] at I; exact I
  | succ d ih =>
    intro c x1 x2 x3 x4 hL hc I
    refine br_f (nI_nlt (by omega) (by omega)) ?_
    refine xw_cellG h1 h2 gd hr (by omega) ?_
    have bG := hG r c
    refine pk_eq (G r c) 32 (fun z => nm_r (nI_1 c) (ih (c + 1) _ _ _ _ (by omega) (by omega) ⟨I.1, ?_⟩)) (fun z => ?_)
    · intro r' c' t1 t2 t3 t4 t5
      by_cases q : r' < r ∨ (r' = r ∧ c' < c)
      · exact I.2 r' c' t1 t2 t3 q t5
      · exfalso
        have e1 : r' = r := by omega
        have e2 : c' = c := by omega
        rw [e1, e2] at t5
        exact t5 z
    · have hin : fo_in y x h w r c := by
        by_cases q : fo_in y x h w r c
        · exact q
        · exact absurd (reg.2.2 r c hT hB hL (by omega) q) z
      exact tr_70 (by omega) (by omega) hT hL (by omega) hin I (fun a b d e I' => ih (c + 1) a b d e (by omega) (by omega) I')
theorem tr_21 {post : Int32 → SX → Prop} {T L R Bt y x h w : Nat} {g : Nat → Nat → Nat} (h1 : rows ≤ 10) (h2 : cols ≤ 25) (gd : gd_ok rows cols G a_grid) (hG : ∀ r c, G r c < 1000) (reg : fo_Reg G T L Bt R y x h w g) (hR : R < cols) (hB : Bt < rows) (hLR : L ≤ R + 1)
    (hp : ∀ a b d e, tr_inv G T L R y x h w (Bt + 1) L a b d e → ((d < 0 → post 0 (nI rows, nI cols, f_room, f_entryCount, f_open, f_readCount, f_seenCount, f_taskCount, a, b, d, e, a_entry, a_boxStart, a_boxW, a_boxH, a_boxB, a_posRow, a_posCol, a_grid, a_readList, a_seenToken, a_seenTop, a_seenLeft, a_seenBottom, a_seenRight, a_taskKind, a_taskTop, a_taskLeft, a_taskBottom, a_taskRight)) ∧ (¬ d < 0 → post 1 (nI rows, nI cols, f_room, f_entryCount, f_open, f_readCount, f_seenCount, f_taskCount, a, b, d, e, a_entry, a_boxStart, a_boxW, a_boxH, a_boxB, a_posRow, a_posCol, a_grid, a_readList, a_seenToken, a_seenTop, a_seenLeft, a_seenBottom, a_seenRight, a_taskKind, a_taskTop, a_taskLeft, a_taskBottom, a_taskRight)))) :
    ∀ d r x1 x2 x3 x4, T ≤ r → r + d = Bt + 1 → tr_inv G T L R y x h w r L x1 x2 x3 x4 → wX_trim_21 post (nI rows) (nI cols) f_room f_entryCount f_open f_readCount f_seenCount f_taskCount (nI T) (nI L) (nI Bt) (nI R) a_entry a_boxStart a_boxW a_boxH a_boxB a_posRow a_posCol a_grid a_readList a_seenToken a_seenTop a_seenLeft a_seenBottom a_seenRight a_taskKind a_taskTop a_taskLeft a_taskBottom a_taskRight (d + 1) x1 x2 x3 x4 (nI r) := by
  intro d
  induction d with
  | zero =>
    intro r x1 x2 x3 x4 hT hr I
    refine br_t (nI_lt (by omega) (by omega)) (hp _ _ _ _ ?_)
    rw [show r = Bt + 1 by omega] at I; exact I
  | succ d ih =>
    intro r x1 x2 x3 x4 hT hr I
    refine br_f (nI_nlt (by omega) (by omega)) ⟨R + 1 - L + 1, tr_36 h1 h2 gd hG reg hR (by omega) hT (by omega) ?_ (R + 1 - L) L _ _ _ _ (Nat.le_refl _) (by omega) I⟩
    intro a b d' e I'
    refine ih (r + 1) a b d' e (by omega) (by omega) ⟨I'.1, ?_⟩
    intro r' c' t1 t2 t3 t4 t5
    exact I'.2 r' c' t1 t2 t3 (by omega) t5
theorem xw_trim {post : Int32 → SX → Prop} {T L R Bt y x h w : Nat} {g : Nat → Nat → Nat} (h1 : rows ≤ 10) (h2 : cols ≤ 25) (gd : gd_ok rows cols G a_grid) (hG : ∀ r c, G r c < 1000) (reg : fo_Reg G T L Bt R y x h w g) (ink : fo_Ink g h w) (hh : 1 ≤ h) (hw : 1 ≤ w) (hR : R < cols) (hB : Bt < rows)
    (hp : post 1 (nI rows, nI cols, f_room, f_entryCount, f_open, f_readCount, f_seenCount, f_taskCount, nI y, nI x, nI (y + h - 1), nI (x + w - 1), a_entry, a_boxStart, a_boxW, a_boxH, a_boxB, a_posRow, a_posCol, a_grid, a_readList, a_seenToken, a_seenTop, a_seenLeft, a_seenBottom, a_seenRight, a_taskKind, a_taskTop, a_taskLeft, a_taskBottom, a_taskRight)) :
    wpX_trim post (nI rows, nI cols, f_room, f_entryCount, f_open, f_readCount, f_seenCount, f_taskCount, nI T, nI L, nI Bt, nI R, a_entry, a_boxStart, a_boxW, a_boxH, a_boxB, a_posRow, a_posCol, a_grid, a_readList, a_seenToken, a_seenTop, a_seenLeft, a_seenBottom, a_seenRight, a_taskKind, a_taskTop, a_taskLeft, a_taskBottom, a_taskRight) := by
  obtain ⟨⟨q1, q2, q3, q4⟩, q5, q6⟩ := reg
  unfold wpX_trim
  refine ⟨Bt + 1 - T + 1, tr_21 h1 h2 gd hG ⟨⟨q1, q2, q3, q4⟩, q5, q6⟩ hR hB (by omega) ?_ (Bt + 1 - T) T _ _ _ _ (Nat.le_refl _) (by omega) ?_⟩
  · intro a b d e I
    obtain ⟨⟨b1, b2, b3, b4⟩, I⟩ := I
    obtain ⟨⟨ct, t1, t2⟩, ⟨cb, u1, u2⟩, ⟨rl, v1, v2⟩, ⟨rr, w1, w2⟩⟩ := ink
    have i1 := I (y + 0) (x + ct) (by omega) (by omega) (by omega) (by omega) (by rw [q5 0 ct (by omega) t1]; exact t2)
    have i2 := I (y + (h - 1)) (x + cb) (by omega) (by omega) (by omega) (by omega) (by rw [q5 (h - 1) cb (by omega) u1]; exact u2)
    have i3 := I (y + rl) (x + 0) (by omega) (by omega) (by omega) (by omega) (by rw [q5 rl 0 v1 (by omega)]; exact v2)
    have i4 := I (y + rr) (x + (w - 1)) (by omega) (by omega) (by omega) (by omega) (by rw [q5 rr (w - 1) w1 (by omega)]; exact w2)
    have ea : a = nI y := Int32.toInt_inj.mp (by rw [nI_toInt (by omega)]; omega)
    have eb : b = nI x := Int32.toInt_inj.mp (by rw [nI_toInt (by omega)]; omega)
    have ed : d = nI (y + h - 1) := Int32.toInt_inj.mp (by rw [nI_toInt (by omega)]; omega)
    have ee : e = nI (x + w - 1) := Int32.toInt_inj.mp (by rw [nI_toInt (by omega)]; omega)
    subst ea eb ed ee
    exact br_f (nI_pos (by omega)) hp
  · refine ⟨⟨?_, ?_, ?_, ?_⟩, ?_⟩
    · rw [nI_toInt (by omega)]; omega
    · rw [nI_toInt (by omega)]; omega
    · rw [show (-1 : Int32).toInt = -1 by decide]; omega
    · rw [show (-1 : Int32).toInt = -1 by decide]; omega
    · intro r' c' t1 t2 t3 t4 t5
      omega
/-- a blank region -/
theorem tb_36 {post : Int32 → SX → Prop} {J21 : Int32 → Int32 → Int32 → Int32 → Int32 → Prop} {L R r : Nat} {x1 x2 x3 x4 : Int32} (h1 : rows ≤ 10) (h2 : cols ≤ 25) (hb : ∀ r c, r < rows → c < cols → a_grid (r * cols + c) = 32) (hR : R < cols) (hr : r < rows)
    (J : J21 x1 x2 x3 x4 (nI (r + 1))) :
    ∀ d c, L ≤ c → c + d = R + 1 → wX_trim_36 post J21 (nI r) (nI rows) (nI cols) f_room f_entryCount f_open f_readCount f_seenCount f_taskCount f_curTop f_curLeft f_curBottom (nI R) a_entry a_boxStart a_boxW a_boxH a_boxB a_posRow a_posCol a_grid a_readList a_seenToken a_seenTop a_seenLeft a_seenBottom a_seenRight a_taskKind a_taskTop a_taskLeft a_taskBottom a_taskRight (d + 1) x1 x2 x3 x4 (nI c) := by
  intro d
  induction d with
  | zero =>
    intro c hL hc
    exact br_t (nI_lt (by omega) (by omega)) (nm_r (nI_1 r) J)
  | succ d ih =>
    intro c hL hc
    refine br_f (nI_nlt (by omega) (by omega)) ?_
    refine xw_cell h1 h2 hr (by omega) ?_
    rw [hb r c hr (by omega)]
    exact br_t rfl (nm_r (nI_1 c) (ih (c + 1) (by omega) (by omega)))
theorem tb_21 {post : Int32 → SX → Prop} {L R Bt : Nat} {f_curTop x1 x2 x4 : Int32} (h1 : rows ≤ 10) (h2 : cols ≤ 25) (hb : ∀ r c, r < rows → c < cols → a_grid (r * cols + c) = 32) (hR : R < cols) (hB : Bt < rows) (hLR : L ≤ R + 1)
    (hp : post 0 (nI rows, nI cols, f_room, f_entryCount, f_open, f_readCount, f_seenCount, f_taskCount, x1, x2, -1, x4, a_entry, a_boxStart, a_boxW, a_boxH, a_boxB, a_posRow, a_posCol, a_grid, a_readList, a_seenToken, a_seenTop, a_seenLeft, a_seenBottom, a_seenRight, a_taskKind, a_taskTop, a_taskLeft, a_taskBottom, a_taskRight)) :
    ∀ d r, r + d = Bt + 1 → wX_trim_21 post (nI rows) (nI cols) f_room f_entryCount f_open f_readCount f_seenCount f_taskCount f_curTop (nI L) (nI Bt) (nI R) a_entry a_boxStart a_boxW a_boxH a_boxB a_posRow a_posCol a_grid a_readList a_seenToken a_seenTop a_seenLeft a_seenBottom a_seenRight a_taskKind a_taskTop a_taskLeft a_taskBottom a_taskRight (d + 1) x1 x2 (-1) x4 (nI r) := by
  intro d
  induction d with
  | zero =>
    intro r hr
    exact br_t (nI_lt (by omega) (by omega)) (br_t (by decide) hp)
  | succ d ih =>
    intro r hr
    exact br_f (nI_nlt (by omega) (by omega)) ⟨R + 1 - L + 1, tb_36 h1 h2 hb hR (by omega) (ih (r + 1) (by omega)) (R + 1 - L) L (Nat.le_refl _) (by omega)⟩
theorem xw_trim0 {post : Int32 → SX → Prop} {T L R Bt : Nat} (h1 : rows ≤ 10) (h2 : cols ≤ 25) (hb : ∀ r c, r < rows → c < cols → a_grid (r * cols + c) = 32) (hR : R < cols) (hB : Bt < rows) (hLR : L ≤ R + 1) (hTB : T ≤ Bt + 1)
    (hp : post 0 (nI rows, nI cols, f_room, f_entryCount, f_open, f_readCount, f_seenCount, f_taskCount, nI rows, nI cols, -1, -1, a_entry, a_boxStart, a_boxW, a_boxH, a_boxB, a_posRow, a_posCol, a_grid, a_readList, a_seenToken, a_seenTop, a_seenLeft, a_seenBottom, a_seenRight, a_taskKind, a_taskTop, a_taskLeft, a_taskBottom, a_taskRight)) :
    wpX_trim post (nI rows, nI cols, f_room, f_entryCount, f_open, f_readCount, f_seenCount, f_taskCount, nI T, nI L, nI Bt, nI R, a_entry, a_boxStart, a_boxW, a_boxH, a_boxB, a_posRow, a_posCol, a_grid, a_readList, a_seenToken, a_seenTop, a_seenLeft, a_seenBottom, a_seenRight, a_taskKind, a_taskTop, a_taskLeft, a_taskBottom, a_taskRight) := by
  unfold wpX_trim
  exact ⟨Bt + 1 - T + 1, tb_21 h1 h2 hb hR hB hLR hp (Bt + 1 - T) T (by omega)⟩
end
end
section
/-! the component: baseline, split, closing bracket -/
section
variable {f_rows f_cols f_room f_entryCount f_open f_readCount f_seenCount f_taskCount f_curTop f_curLeft f_curBottom f_curRight : Int32} {a_entry a_boxStart a_boxW a_boxH a_boxB a_posRow a_posCol a_grid a_readList a_seenToken a_seenTop a_seenLeft a_seenBottom a_seenRight a_taskKind a_taskTop a_taskLeft a_taskBottom a_taskRight : Nat → Int32}
variable {G : Nat → Nat → Nat} {rows cols : Nat}
theorem xw_fi_l {post : Int32 → Prop} {c q b : Nat} (h1 : rows ≤ 10) (h2 : cols ≤ 25) (gd : gd_ok rows cols G a_grid) (hG : ∀ r c, G r c < 1000) (hc : c < cols) (hq : q ≤ b) (hb : b < rows) (hi : G q c ≠ 32) (hp : post (nI q)) : ∀ d r, r + d = q → (∀ r', r ≤ r' → r' < q → G r' c = 32) → ∀ k, d < k → wX_firstInk_3 post (nI c) (nI b) (nI rows) (nI cols) f_room f_entryCount f_open f_readCount f_seenCount f_taskCount f_curTop f_curLeft f_curBottom f_curRight a_entry a_boxStart a_boxW a_boxH a_boxB a_posRow a_posCol a_grid a_readList a_seenToken a_seenTop a_seenLeft a_seenBottom a_seenRight a_taskKind a_taskTop a_taskLeft a_taskBottom a_taskRight k (nI r) := by
  intro d
  induction d with
  | zero =>
    intro r hr hbl k hk
    obtain ⟨k, rfl⟩ : ∃ j, k = j + 1 := ⟨k - 1, by omega⟩
    have e : r = q := by omega
    subst e
    refine pk_le b r (fun z => ?_) (fun z => ?_)
    · rw [show b = r by omega]; exact hp
    · refine xw_cellG h1 h2 gd (by omega) hc ?_
      have bG := hG r c
      exact pk_eq (G r c) 32 (fun w => absurd w hi) (fun _ => hp)
  | succ d ih =>
    intro r hr hbl k hk
    obtain ⟨k, rfl⟩ : ∃ j, k = j + 1 := ⟨k - 1, by omega⟩
    refine br_f (nI_ge (by omega) (by omega)) ?_
    refine xw_cellG h1 h2 gd (by omega) hc ?_
    rw [hbl r (Nat.le_refl _) (by omega)]
    exact br_t rfl (nm_r (nI_1 r) (ih (r + 1) (by omega) (fun r' a b => hbl r' (by omega) b) k (by omega)))
theorem xw_firstInk {post : Int32 → Prop} {c a q b : Nat} (h1 : rows ≤ 10) (h2 : cols ≤ 25) (gd : gd_ok rows cols G a_grid) (hG : ∀ r c, G r c < 1000) (hc : c < cols) (ha : a ≤ q) (hq : q ≤ b) (hb : b < rows) (hbl : ∀ r', a ≤ r' → r' < q → G r' c = 32) (hi : G q c ≠ 32) (hp : post (nI q)) : wpX_firstInk post (nI rows, nI cols, f_room, f_entryCount, f_open, f_readCount, f_seenCount, f_taskCount, f_curTop, f_curLeft, f_curBottom, f_curRight, a_entry, a_boxStart, a_boxW, a_boxH, a_boxB, a_posRow, a_posCol, a_grid, a_readList, a_seenToken, a_seenTop, a_seenLeft, a_seenBottom, a_seenRight, a_taskKind, a_taskTop, a_taskLeft, a_taskBottom, a_taskRight) (nI c) (nI a) (nI b) :=
  ⟨q - a + 1, xw_fi_l h1 h2 gd hG hc hq hb hi hp (q - a) a (by omega) hbl (q - a + 1) (by omega)⟩
theorem xw_be_l {post : Int32 → Prop} {c q b : Nat} (h1 : rows ≤ 10) (h2 : cols ≤ 25) (gd : gd_ok rows cols G a_grid) (hG : ∀ r c, G r c < 1000) (hc : c < cols) (hq : q ≤ b) (hb : b < rows) (he : q < b → G (q + 1) c ≠ 40) (hp : post (nI q)) : ∀ d r, r + d = q → (∀ r', r < r' → r' ≤ q → G r' c = 40) → wX_bracketEnd_3 post (nI c) (nI b) (nI rows) (nI cols) f_room f_entryCount f_open f_readCount f_seenCount f_taskCount f_curTop f_curLeft f_curBottom f_curRight a_entry a_boxStart a_boxW a_boxH a_boxB a_posRow a_posCol a_grid a_readList a_seenToken a_seenTop a_seenLeft a_seenBottom a_seenRight a_taskKind a_taskTop a_taskLeft a_taskBottom a_taskRight (d + 1) (nI r) := by
  intro d
  induction d with
  | zero =>
    intro r hr hbl
    have e : r = q := by omega
    subst e
    refine pk_le b r (fun z => ?_) (fun z => ?_)
    · rw [show b = r by omega]; exact hp
    · rw [nI_1]
      refine xw_cellG h1 h2 gd (by omega) hc ?_
      have bG := hG (r + 1) c
      exact pk_eq (G (r + 1) c) 40 (fun w => absurd w (he z)) (fun _ => hp)
  | succ d ih =>
    intro r hr hbl
    refine br_f (nI_ge (by omega) (by omega)) ?_
    rw [nI_1]
    refine xw_cellG h1 h2 gd (by omega) hc ?_
    rw [hbl (r + 1) (by omega) (by omega)]
    exact br_t rfl (nm_e (ih (r + 1) (by omega) (fun r' a b => hbl r' (by omega) b)))
theorem xw_bracketEnd {post : Int32 → Prop} {c a q b : Nat} (h1 : rows ≤ 10) (h2 : cols ≤ 25) (gd : gd_ok rows cols G a_grid) (hG : ∀ r c, G r c < 1000) (hc : c < cols) (ha : a ≤ q) (hq : q ≤ b) (hb : b < rows) (hbl : ∀ r', a < r' → r' ≤ q → G r' c = 40) (he : q < b → G (q + 1) c ≠ 40) (hp : post (nI q)) : wpX_bracketEnd post (nI rows, nI cols, f_room, f_entryCount, f_open, f_readCount, f_seenCount, f_taskCount, f_curTop, f_curLeft, f_curBottom, f_curRight, a_entry, a_boxStart, a_boxW, a_boxH, a_boxB, a_posRow, a_posCol, a_grid, a_readList, a_seenToken, a_seenTop, a_seenLeft, a_seenBottom, a_seenRight, a_taskKind, a_taskTop, a_taskLeft, a_taskBottom, a_taskRight) (nI c) (nI a) (nI b) :=
  ⟨q - a + 1, xw_be_l h1 h2 gd hG hc hq hb he hp (q - a) a (by omega) hbl⟩
/-- the column at a picture's left edge, within the rows top .. bot -/
def fo_Lft (G : Nat → Nat → Nat) (t : Nat → Nat) (i p top bot y x : Nat) : Prop :=
  (top ≤ y ∧ y + fo_H t i ≤ bot + 1) ∧ (∀ r c, r < fo_H t i → c < fo_W t i + 2 * p → G (y + r) (x + c) = fo_bp t i p r c) ∧ (∀ r, top ≤ r → r ≤ bot → (r < y ∨ y + fo_H t i ≤ r) → G r x = 32)
/-- with brackets: one more column -/
theorem xw_fb_br {post : Int32 → Prop} {t : Nat → Nat} {i R : Nat} (h1 : rows ≤ 10) (h2 : cols ≤ 25) (gd : gd_ok rows cols G a_grid) (hG : ∀ r c, G r c < 1000) (zi : fo_B t i < fo_H t i) (hR : R < cols) (hw : 1 ≤ fo_W t i)
    (ih : ∀ top bot y x k, fo_Lft G t i 0 top bot y x → bot < rows → x + fo_W t i ≤ R + 1 → fo_W t i ≤ k → post (nI (y + fo_B t i)) → wX_findBaseline_15 post (nI rows) (nI cols) f_room f_entryCount f_open f_readCount f_seenCount f_taskCount f_curTop f_curLeft f_curBottom (nI R) a_entry a_boxStart a_boxW a_boxH a_boxB a_posRow a_posCol a_grid a_readList a_seenToken a_seenTop a_seenLeft a_seenBottom a_seenRight a_taskKind a_taskTop a_taskLeft a_taskBottom a_taskRight k (nI top) (nI bot) (nI x)) :
    ∀ p top bot y x k, p ≤ 1 → fo_Lft G t i p top bot y x → bot < rows → x + (fo_W t i + 2 * p) ≤ R + 1 → fo_W t i + 2 * p ≤ k → post (nI (y + fo_B t i)) → wX_findBaseline_15 post (nI rows) (nI cols) f_room f_entryCount f_open f_readCount f_seenCount f_taskCount f_curTop f_curLeft f_curBottom (nI R) a_entry a_boxStart a_boxW a_boxH a_boxB a_posRow a_posCol a_grid a_readList a_seenToken a_seenTop a_seenLeft a_seenBottom a_seenRight a_taskKind a_taskTop a_taskLeft a_taskBottom a_taskRight k (nI top) (nI bot) (nI x) := by
  intro p top bot y x k hp L hb hx hk post1
  by_cases p0 : p = 0
  · subst p0
    exact ih top bot y x k L hb hx hk post1
  · have p1 : p = 1 := by omega
    subst p1
    obtain ⟨⟨l1, l2⟩, l3, l4⟩ := L
    obtain ⟨k, rfl⟩ : ∃ j, k = j + 1 := ⟨k - 1, by omega⟩
    have col : ∀ r, r < fo_H t i → G (y + r) x = 40 := by
      intro r hr
      have := l3 r 0 hr (by omega)
      rw [fo_bp1l, Nat.add_zero] at this
      exact this
    refine br_f (nI_nlt (by omega) (by omega)) ?_
    refine xw_firstInk (q := y) h1 h2 gd hG (by omega) l1 (by omega) hb ?_ ?_ ?_
    · intro r a b
      exact l4 r a (by omega) (Or.inl b)
    · rw [show y = y + 0 by omega, col 0 (by omega)]; decide
    refine xw_cellG h1 h2 gd (by omega) (by omega) ?_
    have c0 := col 0 (by omega)
    rw [Nat.add_zero] at c0
    rw [c0]
    refine br_t rfl ?_
    refine xw_bracketEnd (q := y + fo_H t i - 1) h1 h2 gd hG (by omega) (by omega) (by omega) hb ?_ ?_ ?_
    · intro r a b
      rw [show r = y + (r - y) by omega]
      exact col (r - y) (by omega)
    · intro z
      rw [l4 _ (by omega) (by omega) (Or.inr (by omega))]; decide
    refine nm_r (nI_1 x) (ih y (y + fo_H t i - 1) y (x + 1) k ⟨⟨by omega, by omega⟩, ?_, ?_⟩ (by omega) (by omega) (by omega) post1)
    · intro r c hr hc
      have := l3 r (c + 1) hr (by omega)
      rw [fo_bp1m t i r (by omega), show x + (c + 1) = x + 1 + c by omega] at this
      rw [fo_bp0]; exact this
    · intro r a b c
      omega
theorem xw_fb {post : Int32 → Prop} {t : Nat → Nat} {n R : Nat} (h1 : rows ≤ 10) (h2 : cols ≤ 25) (gd : gd_ok rows cols G a_grid) (hG : ∀ r c, G r c < 1000) (wf : fo_WF t n) (hR : R < cols) : ∀ i, i < n → ∀ top bot y x k, fo_Lft G t i 0 top bot y x → bot < rows → x + fo_W t i ≤ R + 1 → fo_W t i ≤ k → post (nI (y + fo_B t i)) → wX_findBaseline_15 post (nI rows) (nI cols) f_room f_entryCount f_open f_readCount f_seenCount f_taskCount f_curTop f_curLeft f_curBottom (nI R) a_entry a_boxStart a_boxW a_boxH a_boxB a_posRow a_posCol a_grid a_readList a_seenToken a_seenTop a_seenLeft a_seenBottom a_seenRight a_taskKind a_taskTop a_taskLeft a_taskBottom a_taskRight k (nI top) (nI bot) (nI x) := by
  refine fo_ind wf ?_ ?_
  · intro i hi d top bot y x k L hb hx hk hp
    obtain ⟨a, b, c⟩ := fo_D_d d
    obtain ⟨⟨l1, l2⟩, l3, l4⟩ := L
    obtain ⟨k, rfl⟩ : ∃ j, k = j + 1 := ⟨k - 1, by omega⟩
    have g0 : G y x = 48 + t i := by
      have := l3 0 0 (by omega) (by omega)
      rw [fo_bp0, fo_pic_d d] at this; exact this
    refine br_f (nI_nlt (by omega) (by omega)) ?_
    refine xw_firstInk (q := y) h1 h2 gd hG (by omega) l1 (by omega) hb ?_ ?_ ?_
    · intro r a b
      exact l4 r a (by omega) (Or.inl b)
    · omega
    refine xw_cellG h1 h2 gd (by omega) (by omega) ?_
    rw [c, Nat.add_zero] at hp
    have bG := hG y x
    exact pk_eq (G y x) 40 (fun z => absurd z (by omega)) (fun _ => hp)
  · intro i hi h10 h14 o1 o2 o3 ia ib top bot y x k L hb hx hk hp
    have za := fo_sz wf (fo_f t i) (by omega)
    have pa := fo_pA_le t i
    obtain ⟨⟨l1, l2⟩, l3, l4⟩ := L
    by_cases c1 : t i = 13
    · obtain ⟨q1, q2, q3, q4, q5⟩ := fo_D_13 c1 o1
      obtain ⟨g1, g2, g3, g4⟩ := fo_g13 c1
      obtain ⟨k, rfl⟩ : ∃ j, k = j + 1 := ⟨k - 1, by omega⟩
      have zb := (fo_sz wf (i - 1) (by omega)).2.2.1
      have wfx : 1 ≤ fo_fx t i ∧ 1 ≤ fo_sx t i := by omega
      clear g2 g4
      have gb : G (y + fo_H t (fo_f t i)) x = 95 := by
        have := l3 (fo_H t (fo_f t i)) 0 (by omega) (by omega)
        rw [fo_bp0, fo_vR wf hi c1 rfl] at this; exact this
      have gn : ∀ r, r < fo_H t (fo_f t i) → G (y + r) x = 32 := by
        intro r hr
        have := l3 r 0 (by omega) (by omega)
        rw [fo_bp0, fo_vN wf hi c1 hr, if_neg (by omega)] at this; exact this
      refine br_f (nI_nlt (by omega) (by omega)) ?_
      refine xw_firstInk (q := y + fo_H t (fo_f t i)) h1 h2 gd hG (by omega) (by omega) (by omega) hb ?_ ?_ ?_
      · intro r a b
        by_cases z : r < y
        · exact l4 r a (by omega) (Or.inl z)
        · rw [show r = y + (r - y) by omega]; exact gn _ (by omega)
      · rw [gb]; decide
      refine xw_cellG h1 h2 gd (by omega) (by omega) ?_
      rw [gb]
      rw [q5] at hp
      exact br_f (by decide) hp
    · by_cases c2 : t i = 14
      · obtain ⟨q2, q3, q4, q5⟩ := fo_D_14 c2 o1
        obtain ⟨g1, g2, g3, g4⟩ := fo_g14 c2
        rw [q5, show y + (fo_H t (i - 1) + fo_B t (fo_f t i)) = y + fo_H t (i - 1) + fo_B t (fo_f t i) by omega] at hp
        refine xw_fb_br h1 h2 gd hG za.2.2.1 hR za.1 ia (fo_pA t i) top bot (y + fo_H t (i - 1)) x k pa ⟨⟨by omega, by omega⟩, ?_, ?_⟩ hb (by omega) (by omega) hp
        · intro r c hr hc
          have := l3 (fo_H t (i - 1) + r) c (by omega) (by omega)
          rw [fo_bp0, fo_vP wf hi c2 hr, if_pos hc, show y + (fo_H t (i - 1) + r) = y + fo_H t (i - 1) + r by omega] at this
          exact this
        · intro r a b z
          by_cases w : r < y ∨ y + fo_H t i ≤ r
          · exact l4 r a b w
          · have := l3 (r - y) 0 (by omega) (by omega)
            rw [fo_bp0, fo_vE wf hi c2 (by omega) (by omega), if_neg (by omega), show y + (r - y) = r by omega, Nat.add_zero] at this
            exact this
      · have h12 : t i ≤ 12 := by omega
        obtain ⟨q3, q4, q5⟩ := fo_D_c h10 h12 o1
        obtain ⟨g1, g2, g3, g4⟩ := fo_gc (t := t) (i := i) h12
        have lb : fo_B t (fo_f t i) ≤ fo_B t i := by omega
        clear q4 q5
        obtain ⟨gA1, _⟩ := fo_geo wf hi h10
        rw [show y + fo_B t i = y + fo_fy t i + fo_B t (fo_f t i) by omega] at hp
        refine xw_fb_br h1 h2 gd hG za.2.2.1 hR za.1 ia (fo_pA t i) top bot (y + fo_fy t i) x k pa ⟨⟨by omega, by omega⟩, ?_, ?_⟩ hb (by omega) (by omega) hp
        · intro r c hr hc
          have := l3 (fo_fy t i + r) c (by omega) (by omega)
          rw [fo_bp0, fo_vA wf hi h10 h12 hc, if_pos (by omega), show y + (fo_fy t i + r) = y + fo_fy t i + r by omega, show fo_fy t i + r - fo_fy t i = r by omega] at this
          exact this
        · intro r a b z
          by_cases w : r < y ∨ y + fo_H t i ≤ r
          · exact l4 r a b w
          · have := l3 (r - y) 0 (by omega) (by omega)
            rw [fo_bp0, fo_vA wf hi h10 h12 (by omega), if_neg (by omega), show y + (r - y) = r by omega, Nat.add_zero] at this
            exact this
/-- the scan for the main operator -/
theorem xw_fs_l {post : Int32 → Prop} {line R : Nat} (h1 : rows ≤ 10) (h2 : cols ≤ 25) (gd : gd_ok rows cols G a_grid) (hG : ∀ r c, G r c < 1000) (hl : line < rows) (hR : R < cols) : ∀ d c (s : Int32 × Int32 × Int32), c + d = R + 1 → (((fo_sc (G line) d c s).2.1 < 0 → post (fo_sc (G line) d c s).2.2) ∧ (¬ (fo_sc (G line) d c s).2.1 < 0 → post (fo_sc (G line) d c s).2.1)) → wX_findSplit_13 post (nI line) (nI rows) (nI cols) f_room f_entryCount f_open f_readCount f_seenCount f_taskCount f_curTop f_curLeft f_curBottom (nI R) a_entry a_boxStart a_boxW a_boxH a_boxB a_posRow a_posCol a_grid a_readList a_seenToken a_seenTop a_seenLeft a_seenBottom a_seenRight a_taskKind a_taskTop a_taskLeft a_taskBottom a_taskRight (d + 1) s.1 s.2.1 s.2.2 (nI c) := by
  intro d
  induction d with
  | zero =>
    intro c s hc hp
    exact br_t (nI_lt (by omega) (by omega)) hp
  | succ d ih =>
    intro c s hc hp
    have bG := hG line c
    have ih' := ih (c + 1) (fo_st (G line c) c s) (by omega) hp
    clear ih hp
    refine br_f (nI_nlt (by omega) (by omega)) ?_
    refine xw_cellG h1 h2 gd hl (by omega) ?_
    generalize G line c = k at bG ih' ⊢
    refine pk_eq k 40 (fun z => ?_) (fun z => pk_eq k 41 (fun z1 => ?_) (fun z1 => ?_))
    · unfold fo_st at ih'
      rw [if_pos z] at ih'
      exact nm_e (nm_r (nI_1 c) ih')
    · unfold fo_st at ih'
      rw [if_neg z, if_pos z1] at ih'
      exact nm_e (nm_r (nI_1 c) ih')
    · have Q : ¬ (s.1 = 0 ∧ (k = 43 ∨ k = 45)) → wX_findSplit_76 post (wX_findSplit_13 post (nI line) (nI rows) (nI cols) f_room f_entryCount f_open f_readCount f_seenCount f_taskCount f_curTop f_curLeft f_curBottom (nI R) a_entry a_boxStart a_boxW a_boxH a_boxB a_posRow a_posCol a_grid a_readList a_seenToken a_seenTop a_seenLeft a_seenBottom a_seenRight a_taskKind a_taskTop a_taskLeft a_taskBottom a_taskRight (d + 1)) (nI line) s.1 s.2.1 s.2.2 (nI c) (nI k) (nI rows) (nI cols) f_room f_entryCount f_open f_readCount f_seenCount f_taskCount f_curTop f_curLeft f_curBottom (nI R) a_entry a_boxStart a_boxW a_boxH a_boxB a_posRow a_posCol a_grid a_readList a_seenToken a_seenTop a_seenLeft a_seenBottom a_seenRight a_taskKind a_taskTop a_taskLeft a_taskBottom a_taskRight := by
        intro w
        unfold fo_st at ih'
        rw [if_neg z, if_neg z1, if_neg w] at ih'
        refine br_c (fun s0 => pk_eq k 42 (fun v => ?_) (fun v => ?_)) (fun s0 => ?_)
        · rw [if_pos ⟨s0, v⟩] at ih'; exact nm_r (nI_1 c) ih'
        · rw [if_neg (fun q => v q.2)] at ih'; exact nm_r (nI_1 c) ih'
        · rw [if_neg (fun q => s0 q.1)] at ih'; exact nm_r (nI_1 c) ih'
      refine br_c (fun s0 => ?_) (fun s0 => Q (fun q => s0 q.1))
      have P : s.1 = 0 ∧ (k = 43 ∨ k = 45) → wX_findSplit_13 post (nI line) (nI rows) (nI cols) f_room f_entryCount f_open f_readCount f_seenCount f_taskCount f_curTop f_curLeft f_curBottom (nI R) a_entry a_boxStart a_boxW a_boxH a_boxB a_posRow a_posCol a_grid a_readList a_seenToken a_seenTop a_seenLeft a_seenBottom a_seenRight a_taskKind a_taskTop a_taskLeft a_taskBottom a_taskRight (d + 1) s.1 (nI c) s.2.2 (nI (c + 1)) := by
        intro w
        unfold fo_st at ih'
        rw [if_neg z, if_neg z1, if_pos w] at ih'
        exact ih'
      refine pk_eq k 43 (fun v => ?_) (fun v => pk_eq k 45 (fun v2 => ?_) (fun v2 => ?_))
      · exact br_f (by decide) (nm_r (nI_1 c) (P ⟨s0, Or.inl v⟩))
      · exact br_f (by decide) (nm_r (nI_1 c) (P ⟨s0, Or.inr v2⟩))
      · exact br_t rfl (Q (fun q => q.2.elim v v2))
theorem xw_findSplit {post : Int32 → Prop} {line L R : Nat} (h1 : rows ≤ 10) (h2 : cols ≤ 25) (gd : gd_ok rows cols G a_grid) (hG : ∀ r c, G r c < 1000) (hl : line < rows) (hR : R < cols) (hLR : L ≤ R) {a b : Int32} (hs : fo_sc (G line) (R + 1 - L) L (0, -1, -1) = (0, a, b)) (hp : (a < 0 → post b) ∧ (¬ a < 0 → post a)) : wpX_findSplit post (nI rows, nI cols, f_room, f_entryCount, f_open, f_readCount, f_seenCount, f_taskCount, f_curTop, nI L, f_curBottom, nI R, a_entry, a_boxStart, a_boxW, a_boxH, a_boxB, a_posRow, a_posCol, a_grid, a_readList, a_seenToken, a_seenTop, a_seenLeft, a_seenBottom, a_seenRight, a_taskKind, a_taskTop, a_taskLeft, a_taskBottom, a_taskRight) (nI line) := by
  refine ⟨R + 1 - L + 1, xw_fs_l h1 h2 gd hG hl hR (R + 1 - L) L (0, -1, -1) (by omega) ?_⟩
  rw [hs]; exact hp
/-- the scan for the closing bracket -/
theorem xw_fc_l {post : Int32 → Prop} {line R : Nat} (h1 : rows ≤ 10) (h2 : cols ≤ 25) (gd : gd_ok rows cols G a_grid) (hG : ∀ r c, G r c < 1000) (hl : line < rows) (hR : R < cols) : ∀ k c m m' f, c + k ≤ R + 1 → m + k < 1000 → fo_pass (G line) k c m m' → wX_findClose_7 post (nI line) (nI rows) (nI cols) f_room f_entryCount f_open f_readCount f_seenCount f_taskCount f_curTop f_curLeft f_curBottom (nI R) a_entry a_boxStart a_boxW a_boxH a_boxB a_posRow a_posCol a_grid a_readList a_seenToken a_seenTop a_seenLeft a_seenBottom a_seenRight a_taskKind a_taskTop a_taskLeft a_taskBottom a_taskRight f (nI m') (nI (c + k)) → wX_findClose_7 post (nI line) (nI rows) (nI cols) f_room f_entryCount f_open f_readCount f_seenCount f_taskCount f_curTop f_curLeft f_curBottom (nI R) a_entry a_boxStart a_boxW a_boxH a_boxB a_posRow a_posCol a_grid a_readList a_seenToken a_seenTop a_seenLeft a_seenBottom a_seenRight a_taskKind a_taskTop a_taskLeft a_taskBottom a_taskRight (f + k) (nI m) (nI c) := by
  intro k
  induction k with
  | zero =>
    intro c m m' f hc hm h K
    have e : m = m' := h
    subst e
    exact K
  | succ k ih =>
    intro c m m' f hc hm h K
    rw [show c + (k + 1) = c + 1 + k by omega] at K
    rw [show f + (k + 1) = f + k + 1 by omega]
    have bG := hG line c
    refine br_f (nI_nlt (by omega) (by omega)) ?_
    refine xw_cellG h1 h2 gd hl (by omega) ?_
    refine pk_eq (G line c) 40 (fun z => ?_) (fun z => pk_eq (G line c) 41 (fun z1 => ?_) (fun z1 => ?_))
    · exact nm_r (nI_1 m) (nm_r (nI_1 c) (ih (c + 1) (m + 1) m' f (by omega) (by omega) (h.1 z) K))
    · obtain ⟨q1, q2⟩ := h.2.1 z1
      refine nm_r (e' := nI (m - 1)) (by rw [show m = m - 1 + 1 by omega, pk_m1]; rfl) ?_
      exact br_f (nI_ne0 (by omega) (by omega)) (nm_r (nI_1 c) (ih (c + 1) (m - 1) m' f (by omega) (by omega) q2 K))
    · exact nm_r (nI_1 c) (ih (c + 1) m m' f (by omega) (by omega) (h.2.2 z z1) K)
theorem xw_findClose {post : Int32 → Prop} {line L R k : Nat} (h1 : rows ≤ 10) (h2 : cols ≤ 25) (gd : gd_ok rows cols G a_grid) (hG : ∀ r c, G r c < 1000) (hl : line < rows) (hR : R < cols) (hk : L + k + 1 ≤ R) (h40 : G line L = 40) (h41 : G line (L + k + 1) = 41) (hps : fo_pass (G line) k (L + 1) 1 1) (hp : post (nI (L + k + 1))) : wpX_findClose post (nI rows, nI cols, f_room, f_entryCount, f_open, f_readCount, f_seenCount, f_taskCount, f_curTop, nI L, f_curBottom, nI R, a_entry, a_boxStart, a_boxW, a_boxH, a_boxB, a_posRow, a_posCol, a_grid, a_readList, a_seenToken, a_seenTop, a_seenLeft, a_seenBottom, a_seenRight, a_taskKind, a_taskTop, a_taskLeft, a_taskBottom, a_taskRight) (nI line) := by
  refine ⟨1 + k + 1, ?_⟩
  refine br_f (nI_nlt (by omega) (by omega)) ?_
  refine xw_cellG h1 h2 gd hl (by omega) ?_
  rw [h40]
  refine br_t rfl (nm_r (e' := nI 1) rfl (nm_r (nI_1 L) ?_))
  refine xw_fc_l h1 h2 gd hG hl hR k (L + 1) 1 1 1 (by omega) (by omega) hps ?_
  refine br_f (nI_nlt (by omega) (by omega)) ?_
  refine xw_cellG h1 h2 gd hl (by omega) ?_
  rw [show L + 1 + k = L + k + 1 by omega, h41]
  refine br_f (by decide) (br_t rfl (nm_e (br_t (by decide) hp)))
end
end
section
/-! the component: tasks; what a region splits into -/
def fo_Box (G : Nat → Nat → Nat) (t : Nat → Nat) (i p y x : Nat) : Prop := ∀ r c, r < fo_H t i → c < fo_W t i + 2 * p → G (y + r) (x + c) = fo_bp t i p r c
def tk_at (K T L B R : Nat → Int32) (j : Nat) (k : Int32) (a b c d : Nat) : Prop := K j = k ∧ T j = nI a ∧ L j = nI b ∧ B j = nI c ∧ R j = nI d
def tk_eq (k : Nat) (K T L B R K' T' L' B' R' : Nat → Int32) : Prop := ∀ j, j < k → K' j = K j ∧ T' j = T j ∧ L' j = L j ∧ B' j = B j ∧ R' j = R j
theorem tk_eq_t {k k' : Nat} {K T L B R K' T' L' B' R' K2 T2 L2 B2 R2 : Nat → Int32} (h : tk_eq k K T L B R K' T' L' B' R') (h2 : tk_eq k' K' T' L' B' R' K2 T2 L2 B2 R2) (hk : k ≤ k') : tk_eq k K T L B R K2 T2 L2 B2 R2 := by
  intro j hj
  obtain ⟨a, b, c, d, e⟩ := h j hj
  obtain ⟨a', b', c', d', e'⟩ := h2 j (by omega)
  exact ⟨a'.trans a, b'.trans b, c'.trans c, d'.trans d, e'.trans e⟩
theorem tk_eq_at {k j : Nat} {K T L B R K' T' L' B' R' : Nat → Int32} {v : Int32} {a b c d : Nat} (h : tk_eq k K T L B R K' T' L' B' R') (hj : j < k) (q : tk_at K T L B R j v a b c d) : tk_at K' T' L' B' R' j v a b c d := by
  obtain ⟨a, b, c, d, e⟩ := h j hj
  obtain ⟨a', b', c', d', e'⟩ := q
  exact ⟨a.trans a', b.trans b', c.trans c', d.trans d', e.trans e'⟩
theorem tk_1 {K T L B R : Nat → Int32} {k : Nat} {v0 : Int32} {a0 b0 c0 d0 : Nat} :
    tk_eq k K T L B R (upd K k v0) (upd T k (nI a0)) (upd L k (nI b0)) (upd B k (nI c0)) (upd R k (nI d0)) ∧ tk_at (upd K k v0) (upd T k (nI a0)) (upd L k (nI b0)) (upd B k (nI c0)) (upd R k (nI d0)) k v0 a0 b0 c0 d0 :=
  ⟨fun j hj => ⟨pk_un (by omega), pk_un (by omega), pk_un (by omega), pk_un (by omega), pk_un (by omega)⟩, ⟨pk_us, pk_us, pk_us, pk_us, pk_us⟩⟩
theorem tk_3 {K T L B R : Nat → Int32} {k : Nat} {v0 v1 v2 : Int32} {a0 b0 c0 d0 a1 b1 c1 d1 a2 b2 c2 d2 : Nat} {K' T' L' B' R' : Nat → Int32}
    (eK : K' = upd (upd (upd K k v0) (k + 1) v1) (k + 1 + 1) v2) (eT : T' = upd (upd (upd T k (nI a0)) (k + 1) (nI a1)) (k + 1 + 1) (nI a2)) (eL : L' = upd (upd (upd L k (nI b0)) (k + 1) (nI b1)) (k + 1 + 1) (nI b2)) (eB : B' = upd (upd (upd B k (nI c0)) (k + 1) (nI c1)) (k + 1 + 1) (nI c2)) (eR : R' = upd (upd (upd R k (nI d0)) (k + 1) (nI d1)) (k + 1 + 1) (nI d2)) :
    tk_eq k K T L B R K' T' L' B' R' ∧ tk_at K' T' L' B' R' k v0 a0 b0 c0 d0 ∧ tk_at K' T' L' B' R' (k + 1) v1 a1 b1 c1 d1 ∧ tk_at K' T' L' B' R' (k + 2) v2 a2 b2 c2 d2 := by
  subst eK eT eL eB eR
  have n1 : k ≠ k + 1 := by omega
  have n2 : k ≠ k + 1 + 1 := by omega
  have n3 : k + 1 ≠ k + 1 + 1 := by omega
  refine ⟨?_, ⟨?_, ?_, ?_, ?_, ?_⟩, ⟨?_, ?_, ?_, ?_, ?_⟩, ⟨pk_us, pk_us, pk_us, pk_us, pk_us⟩⟩
  · intro j hj
    have m1 : j ≠ k := by omega
    have m2 : j ≠ k + 1 := by omega
    have m3 : j ≠ k + 1 + 1 := by omega
    refine ⟨?_, ?_, ?_, ?_, ?_⟩ <;> rw [pk_un m3, pk_un m2, pk_un m1]
  all_goals first | (rw [pk_un n2, pk_un n1, pk_us]) | (rw [pk_un n3, pk_us])
section
variable {f_rows f_cols f_room f_entryCount f_open f_readCount f_seenCount f_taskCount f_curTop f_curLeft f_curBottom f_curRight : Int32} {a_entry a_boxStart a_boxW a_boxH a_boxB a_posRow a_posCol a_grid a_readList a_seenToken a_seenTop a_seenLeft a_seenBottom a_seenRight a_taskKind a_taskTop a_taskLeft a_taskBottom a_taskRight : Nat → Int32}
theorem xw_pushTask {post : SX → Prop} {k : Nat} {p0 p1 p2 p3 p4 : Int32} (hk : k < 128) (hp : post (f_rows, f_cols, f_room, f_entryCount, f_open, f_readCount, f_seenCount, nI (k + 1), f_curTop, f_curLeft, f_curBottom, f_curRight, a_entry, a_boxStart, a_boxW, a_boxH, a_boxB, a_posRow, a_posCol, a_grid, a_readList, a_seenToken, a_seenTop, a_seenLeft, a_seenBottom, a_seenRight, upd a_taskKind k p0, upd a_taskTop k p1, upd a_taskLeft k p2, upd a_taskBottom k p3, upd a_taskRight k p4)) : wpX_pushTask post (f_rows, f_cols, f_room, f_entryCount, f_open, f_readCount, f_seenCount, nI k, f_curTop, f_curLeft, f_curBottom, f_curRight, a_entry, a_boxStart, a_boxW, a_boxH, a_boxB, a_posRow, a_posCol, a_grid, a_readList, a_seenToken, a_seenTop, a_seenLeft, a_seenBottom, a_seenRight, a_taskKind, a_taskTop, a_taskLeft, a_taskBottom, a_taskRight) p0 p1 p2 p3 p4 := by
  have ck : (nI k).toNatClampNeg = k := nI_clamp (by omega)
  have nk : vp_in (nI k) 128 := pk_in k 128 hk
  unfold wpX_pushTask
  refine br_f (nI_ge (b := 128) (by omega) (by omega)) ?_
  exact ⟨nk, nm_r (e' := upd a_taskKind k p0) (by rw [ck]) ⟨nk, nm_r (e' := upd a_taskTop k p1) (by rw [ck]) ⟨nk, nm_r (e' := upd a_taskLeft k p2) (by rw [ck]) ⟨nk, nm_r (e' := upd a_taskBottom k p3) (by rw [ck]) ⟨nk, nm_r (e' := upd a_taskRight k p4) (by rw [ck]) (nm_r (nI_1 k) hp)⟩⟩⟩⟩⟩
theorem xw_expandPair {post : SX → Prop} {k : Nat} {p0 : Int32} (hk : k < 128) (hp : post (f_rows, f_cols, f_room, f_entryCount, f_open, f_readCount, f_seenCount, nI (k + 1), f_curTop, f_curLeft, f_curBottom, f_curRight, a_entry, a_boxStart, a_boxW, a_boxH, a_boxB, a_posRow, a_posCol, a_grid, a_readList, a_seenToken, a_seenTop, a_seenLeft, a_seenBottom, a_seenRight, upd a_taskKind k p0, upd a_taskTop k f_curTop, upd a_taskLeft k f_curLeft, upd a_taskBottom k f_curBottom, upd a_taskRight k f_curRight)) : wpX_expandPair post (f_rows, f_cols, f_room, f_entryCount, f_open, f_readCount, f_seenCount, nI k, f_curTop, f_curLeft, f_curBottom, f_curRight, a_entry, a_boxStart, a_boxW, a_boxH, a_boxB, a_posRow, a_posCol, a_grid, a_readList, a_seenToken, a_seenTop, a_seenLeft, a_seenBottom, a_seenRight, a_taskKind, a_taskTop, a_taskLeft, a_taskBottom, a_taskRight) p0 := by
  unfold wpX_expandPair
  exact xw_pushTask hk hp
theorem xw_emit {post : SX → Prop} {m : Nat} {p0 : Int32} (hm : m < 31) (hp : post (f_rows, f_cols, f_room, f_entryCount, f_open, f_readCount, nI (m + 1), f_taskCount, f_curTop, f_curLeft, f_curBottom, f_curRight, a_entry, a_boxStart, a_boxW, a_boxH, a_boxB, a_posRow, a_posCol, a_grid, a_readList, upd a_seenToken m p0, upd a_seenTop m f_curTop, upd a_seenLeft m f_curLeft, upd a_seenBottom m f_curBottom, upd a_seenRight m f_curRight, a_taskKind, a_taskTop, a_taskLeft, a_taskBottom, a_taskRight)) : wpX_emit post (f_rows, f_cols, f_room, f_entryCount, f_open, f_readCount, nI m, f_taskCount, f_curTop, f_curLeft, f_curBottom, f_curRight, a_entry, a_boxStart, a_boxW, a_boxH, a_boxB, a_posRow, a_posCol, a_grid, a_readList, a_seenToken, a_seenTop, a_seenLeft, a_seenBottom, a_seenRight, a_taskKind, a_taskTop, a_taskLeft, a_taskBottom, a_taskRight) p0 := by
  have ck : (nI m).toNatClampNeg = m := nI_clamp (by omega)
  have nk : vp_in (nI m) 31 := pk_in m 31 hm
  unfold wpX_emit
  refine br_f (nI_ge (b := 31) (by omega) (by omega)) ?_
  exact ⟨nk, nm_r (e' := upd a_seenToken m p0) (by rw [ck]) ⟨nk, nm_r (e' := upd a_seenTop m f_curTop) (by rw [ck]) ⟨nk, nm_r (e' := upd a_seenLeft m f_curLeft) (by rw [ck]) ⟨nk, nm_r (e' := upd a_seenBottom m f_curBottom) (by rw [ck]) ⟨nk, nm_r (e' := upd a_seenRight m f_curRight) (by rw [ck]) (nm_r (nI_1 m) hp)⟩⟩⟩⟩⟩
theorem xw_tokenOf {post : Int32 → Prop} {k : Nat} (h1 : 10 ≤ k) (h2 : k ≤ 12) (hp : post (nI k)) : wpX_tokenOf post (f_rows, f_cols, f_room, f_entryCount, f_open, f_readCount, f_seenCount, f_taskCount, f_curTop, f_curLeft, f_curBottom, f_curRight, a_entry, a_boxStart, a_boxW, a_boxH, a_boxB, a_posRow, a_posCol, a_grid, a_readList, a_seenToken, a_seenTop, a_seenLeft, a_seenBottom, a_seenRight, a_taskKind, a_taskTop, a_taskLeft, a_taskBottom, a_taskRight) (nI (fo_sg k)) := by
  unfold fo_sg
  by_cases a : k = 10
  · rw [if_pos a]; rw [a] at hp; exact br_t rfl hp
  · rw [if_neg a]
    by_cases b : k = 11
    · rw [if_pos b]; rw [b] at hp; exact br_f (by decide) (br_t rfl hp)
    · rw [if_neg b]; rw [show k = 12 by omega] at hp; exact br_f (by decide) (br_f (by decide) hp)
end
/-! regions -/
section
variable {G : Nat → Nat → Nat} {t : Nat → Nat} {n i y x : Nat}
theorem rg_in (hb : fo_Box G t i 1 y x) (hH : 1 ≤ fo_H t i) (hW : 1 ≤ fo_W t i) : fo_Reg G y (x + 1) (y + fo_H t i - 1) (x + fo_W t i) y (x + 1) (fo_H t i) (fo_W t i + 2 * 0) (fo_bp t i 0) := by
  refine ⟨⟨by omega, by omega, by omega, by omega⟩, ?_, fun r c a b d e f => by omega⟩
  intro r c hr hc
  have := hb r (c + 1) hr (by omega)
  rw [fo_bp1m t i r (by omega), show x + (c + 1) = x + 1 + c by omega] at this
  rw [fo_bp0]; exact this
theorem rg_A (wf : fo_WF t n) (hi : i < n) (h10 : 10 ≤ t i) (h12 : t i ≤ 12) (hb : fo_Box G t i 0 y x) : fo_Reg G y x (y + fo_H t i - 1) (x + (fo_W t (fo_f t i) + 2 * fo_pA t i) - 1) (y + fo_fy t i) x (fo_H t (fo_f t i)) (fo_W t (fo_f t i) + 2 * fo_pA t i) (fo_bp t (fo_f t i) (fo_pA t i)) := by
  obtain ⟨o1, o2, o3⟩ := fo_op wf hi h10
  obtain ⟨q3, _, _⟩ := fo_D_c h10 h12 o1
  obtain ⟨gA1, _⟩ := fo_geo wf hi h10
  have za := fo_sz wf (fo_f t i) (by omega)
  refine ⟨⟨by omega, by omega, by omega, by omega⟩, ?_, ?_⟩
  · intro r c hr hc
    have := hb (fo_fy t i + r) c (by omega) (by omega)
    rw [fo_bp0, fo_vA wf hi h10 h12 hc, if_pos (by omega), show y + (fo_fy t i + r) = y + fo_fy t i + r by omega, show fo_fy t i + r - fo_fy t i = r by omega] at this
    exact this
  · intro r c a b d e f
    have := hb (r - y) (c - x) (by omega) (by omega)
    rw [fo_bp0, fo_vA wf hi h10 h12 (by omega), if_neg (by omega), show y + (r - y) = r by omega, show x + (c - x) = c by omega] at this
    exact this
theorem rg_B (wf : fo_WF t n) (hi : i < n) (h10 : 10 ≤ t i) (h12 : t i ≤ 12) (hb : fo_Box G t i 0 y x) : fo_Reg G y (x + (fo_W t (fo_f t i) + 2 * fo_pA t i) + 1) (y + fo_H t i - 1) (x + fo_W t i - 1) (y + fo_sy t i) (x + (fo_W t (fo_f t i) + 2 * fo_pA t i) + 1) (fo_H t (i - 1)) (fo_W t (i - 1) + 2 * fo_pB t i) (fo_bp t (i - 1) (fo_pB t i)) := by
  obtain ⟨o1, o2, o3⟩ := fo_op wf hi h10
  obtain ⟨q3, _, _⟩ := fo_D_c h10 h12 o1
  obtain ⟨_, _, _, gB1, _⟩ := fo_geo wf hi h10
  have zb := fo_sz wf (i - 1) (by omega)
  refine ⟨⟨by omega, by omega, by omega, by omega⟩, ?_, ?_⟩
  · intro r c hr hc
    have := hb (fo_sy t i + r) (fo_W t (fo_f t i) + 2 * fo_pA t i + 1 + c) (by omega) (by omega)
    rw [fo_bp0, fo_vB wf hi h10 h12 hc, if_pos (by omega), show y + (fo_sy t i + r) = y + fo_sy t i + r by omega, show fo_sy t i + r - fo_sy t i = r by omega, show x + (fo_W t (fo_f t i) + 2 * fo_pA t i + 1 + c) = x + (fo_W t (fo_f t i) + 2 * fo_pA t i) + 1 + c by omega] at this
    exact this
  · intro r c a b d e f
    have := hb (r - y) (fo_W t (fo_f t i) + 2 * fo_pA t i + 1 + (c - (x + (fo_W t (fo_f t i) + 2 * fo_pA t i) + 1))) (by omega) (by omega)
    rw [fo_bp0, fo_vB wf hi h10 h12 (by omega), if_neg (by omega), show y + (r - y) = r by omega, show x + (fo_W t (fo_f t i) + 2 * fo_pA t i + 1 + (c - (x + (fo_W t (fo_f t i) + 2 * fo_pA t i) + 1))) = c by omega] at this
    exact this
theorem rg_N (wf : fo_WF t n) (hi : i < n) (h13 : t i = 13) (hb : fo_Box G t i 0 y x) : fo_Reg G y x (y + fo_H t (fo_f t i) - 1) (x + fo_W t i - 1) y (x + fo_fx t i) (fo_H t (fo_f t i)) (fo_W t (fo_f t i) + 2 * 0) (fo_bp t (fo_f t i) 0) := by
  obtain ⟨o1, o2, o3⟩ := fo_op wf hi (by omega)
  obtain ⟨q1, q2, q3, q4, q5⟩ := fo_D_13 h13 o1
  obtain ⟨gA1, gA2, _⟩ := fo_geo wf hi (by omega)
  have za := fo_sz wf (fo_f t i) (by omega)
  refine ⟨⟨by omega, by omega, by omega, by omega⟩, ?_, ?_⟩
  · intro r c hr hc
    have := hb r (fo_fx t i + c) (by omega) (by omega)
    rw [fo_bp0, fo_vN wf hi h13 hr, if_pos (by omega), show x + (fo_fx t i + c) = x + fo_fx t i + c by omega, show fo_fx t i + c - fo_fx t i = c by omega] at this
    rw [fo_bp0]; exact this
  · intro r c a b d e f
    have := hb (r - y) (c - x) (by omega) (by omega)
    rw [fo_bp0, fo_vN wf hi h13 (by omega), if_neg (by omega), show y + (r - y) = r by omega, show x + (c - x) = c by omega] at this
    exact this
theorem rg_D (wf : fo_WF t n) (hi : i < n) (h13 : t i = 13) (hb : fo_Box G t i 0 y x) : fo_Reg G (y + fo_H t (fo_f t i) + 1) x (y + fo_H t i - 1) (x + fo_W t i - 1) (y + fo_H t (fo_f t i) + 1) (x + fo_sx t i) (fo_H t (i - 1)) (fo_W t (i - 1) + 2 * 0) (fo_bp t (i - 1) 0) := by
  obtain ⟨o1, o2, o3⟩ := fo_op wf hi (by omega)
  obtain ⟨q1, q2, q3, q4, q5⟩ := fo_D_13 h13 o1
  obtain ⟨_, _, _, gB1, gB2, _⟩ := fo_geo wf hi (by omega)
  have zb := fo_sz wf (i - 1) (by omega)
  refine ⟨⟨by omega, by omega, by omega, by omega⟩, ?_, ?_⟩
  · intro r c hr hc
    have := hb (fo_H t (fo_f t i) + 1 + r) (fo_sx t i + c) (by omega) (by omega)
    rw [fo_bp0, fo_vD wf hi h13 hr, if_pos (by omega), show x + (fo_sx t i + c) = x + fo_sx t i + c by omega, show fo_sx t i + c - fo_sx t i = c by omega, show y + (fo_H t (fo_f t i) + 1 + r) = y + fo_H t (fo_f t i) + 1 + r by omega] at this
    rw [fo_bp0]; exact this
  · intro r c a b d e f
    have := hb (fo_H t (fo_f t i) + 1 + (r - (y + fo_H t (fo_f t i) + 1))) (c - x) (by omega) (by omega)
    rw [fo_bp0, fo_vD wf hi h13 (by omega), if_neg (by omega), show y + (fo_H t (fo_f t i) + 1 + (r - (y + fo_H t (fo_f t i) + 1))) = r by omega, show x + (c - x) = c by omega] at this
    exact this
theorem rg_E (wf : fo_WF t n) (hi : i < n) (h14 : t i = 14) (hb : fo_Box G t i 0 y x) : fo_Reg G y (x + (fo_W t (fo_f t i) + 2 * fo_pA t i)) (y + fo_H t (i - 1) - 1) (x + fo_W t i - 1) y (x + (fo_W t (fo_f t i) + 2 * fo_pA t i)) (fo_H t (i - 1)) (fo_W t (i - 1) + 2 * 0) (fo_bp t (i - 1) 0) := by
  obtain ⟨o1, o2, o3⟩ := fo_op wf hi (by omega)
  obtain ⟨q2, q3, q4, q5⟩ := fo_D_14 h14 o1
  obtain ⟨g1, g2, g3, g4⟩ := fo_g14 h14
  have zb := fo_sz wf (i - 1) (by omega)
  refine ⟨⟨by omega, by omega, by omega, by omega⟩, ?_, fun r c a b d e f => by omega⟩
  intro r c hr hc
  have := hb r (fo_W t (fo_f t i) + 2 * fo_pA t i + c) (by omega) (by omega)
  rw [fo_bp0, fo_vE wf hi h14 hr (by omega), if_pos (by omega), show x + (fo_W t (fo_f t i) + 2 * fo_pA t i + c) = x + (fo_W t (fo_f t i) + 2 * fo_pA t i) + c by omega, show fo_W t (fo_f t i) + 2 * fo_pA t i + c - fo_sx t i = c by omega] at this
  rw [fo_bp0]; exact this
theorem rg_P (wf : fo_WF t n) (hi : i < n) (h14 : t i = 14) (hb : fo_Box G t i 0 y x) : fo_Reg G (y + fo_H t (i - 1)) (x + fo_pA t i) (y + fo_H t i - 1) (x + fo_pA t i + fo_W t (fo_f t i) - 1) (y + fo_H t (i - 1)) (x + fo_pA t i) (fo_H t (fo_f t i)) (fo_W t (fo_f t i) + 2 * 0) (fo_bp t (fo_f t i) 0) := by
  obtain ⟨o1, o2, o3⟩ := fo_op wf hi (by omega)
  obtain ⟨q2, q3, q4, q5⟩ := fo_D_14 h14 o1
  have za := fo_sz wf (fo_f t i) (by omega)
  have pa := fo_pA_le t i
  refine ⟨⟨by omega, by omega, by omega, by omega⟩, ?_, fun r c a b d e f => by omega⟩
  intro r c hr hc
  have := hb (fo_H t (i - 1) + r) (fo_pA t i + c) (by omega) (by omega)
  rw [fo_bp0, fo_vP wf hi h14 hr, if_pos (by omega), show y + (fo_H t (i - 1) + r) = y + fo_H t (i - 1) + r by omega, show x + (fo_pA t i + c) = x + fo_pA t i + c by omega] at this
  rw [this, fo_bp0]
  by_cases p0 : fo_pA t i = 0
  · rw [p0, fo_bp0, Nat.zero_add]
  · rw [show fo_pA t i = 1 by omega, Nat.add_comm 1 c, fo_bp1m t _ _ (by omega)]
end
end
section
/-! the component: what a trimmed region expands to -/
theorem bx_row {G : Nat → Nat → Nat} {t : Nat → Nat} {i p y x : Nat} (zi : fo_B t i < fo_H t i) (hb : fo_Box G t i p y x) : fo_row t i p (G (y + fo_B t i)) x := fun j hj => hb (fo_B t i) j zi hj
section
variable {f_rows f_cols f_room f_entryCount f_open f_readCount f_seenCount f_taskCount f_curTop f_curLeft f_curBottom f_curRight : Int32} {a_entry a_boxStart a_boxW a_boxH a_boxB a_posRow a_posCol a_grid a_readList a_seenToken a_seenTop a_seenLeft a_seenBottom a_seenRight a_taskKind a_taskTop a_taskLeft a_taskBottom a_taskRight : Nat → Int32}
variable {G : Nat → Nat → Nat} {rows cols : Nat} {t : Nat → Nat} {n i p y x k : Nat}
theorem ex_line {post : Int32 → Prop} (h1 : rows ≤ 10) (h2 : cols ≤ 25) (gd : gd_ok rows cols G a_grid) (hG : ∀ r c, G r c < 1000) (wf : fo_WF t n) (hn : n ≤ 31) (hi : i < n) (hy : y + fo_H t i ≤ rows) (hp : p ≤ 1) (hx : x + (fo_W t i + 2 * p) ≤ cols) (hb : fo_Box G t i p y x) (h : post (nI (y + fo_B t i))) : wpX_findBaseline post (nI rows, nI cols, f_room, f_entryCount, f_open, f_readCount, f_seenCount, f_taskCount, nI y, nI x, nI (y + fo_H t i - 1), nI (x + (fo_W t i + 2 * p) - 1), a_entry, a_boxStart, a_boxW, a_boxH, a_boxB, a_posRow, a_posCol, a_grid, a_readList, a_seenToken, a_seenTop, a_seenLeft, a_seenBottom, a_seenRight, a_taskKind, a_taskTop, a_taskLeft, a_taskBottom, a_taskRight) := by
  have zi := fo_sz wf i hi
  refine ⟨fo_W t i + 2 * p, ?_⟩
  exact xw_fb_br h1 h2 gd hG zi.2.2.1 (by omega) zi.1 (xw_fb h1 h2 gd hG wf (by omega) i hi) p y (y + fo_H t i - 1) y x (fo_W t i + 2 * p) hp ⟨⟨by omega, by omega⟩, hb, fun r a b c => by omega⟩ (by omega) (by omega) (Nat.le_refl _) h
theorem ex_split_b {post : Int32 → Prop} (h1 : rows ≤ 10) (h2 : cols ≤ 25) (gd : gd_ok rows cols G a_grid) (hG : ∀ r c, G r c < 1000) (wf : fo_WF t n) (hn : n ≤ 31) (hi : i < n) (hy : y + fo_H t i ≤ rows) (hx : x + (fo_W t i + 2 * 1) ≤ cols) (hb : fo_Box G t i 1 y x) (h : post (-1)) : wpX_findSplit post (nI rows, nI cols, f_room, f_entryCount, f_open, f_readCount, f_seenCount, f_taskCount, nI y, nI x, nI (y + fo_H t i - 1), nI (x + (fo_W t i + 2 * 1) - 1), a_entry, a_boxStart, a_boxW, a_boxH, a_boxB, a_posRow, a_posCol, a_grid, a_readList, a_seenToken, a_seenTop, a_seenLeft, a_seenBottom, a_seenRight, a_taskKind, a_taskTop, a_taskLeft, a_taskBottom, a_taskRight) (nI (y + fo_B t i)) := by
  have zi := fo_sz wf i hi
  have li := fo_L_le wf i hi
  refine xw_findSplit (a := -1) (b := -1) h1 h2 gd hG (by omega) (by omega) (by omega) ?_ (br_t (by decide) h)
  rw [show x + (fo_W t i + 2 * 1) - 1 + 1 - x = fo_W t i + 2 by omega]
  exact fo_sc_brk wf hi (by omega) (bx_row zi.2.2.1 hb) (-1) (-1)
theorem ex_split_c {post : Int32 → Prop} (h1 : rows ≤ 10) (h2 : cols ≤ 25) (gd : gd_ok rows cols G a_grid) (hG : ∀ r c, G r c < 1000) (wf : fo_WF t n) (hn : n ≤ 31) (hi : i < n) (hy : y + fo_H t i ≤ rows) (h10 : 10 ≤ t i) (h12 : t i ≤ 12) (hx : x + (fo_W t i + 2 * 0) ≤ cols) (hb : fo_Box G t i 0 y x) (h : post (nI (x + (fo_W t (fo_f t i) + 2 * fo_pA t i)))) : wpX_findSplit post (nI rows, nI cols, f_room, f_entryCount, f_open, f_readCount, f_seenCount, f_taskCount, nI y, nI x, nI (y + fo_H t i - 1), nI (x + (fo_W t i + 2 * 0) - 1), a_entry, a_boxStart, a_boxW, a_boxH, a_boxB, a_posRow, a_posCol, a_grid, a_readList, a_seenToken, a_seenTop, a_seenLeft, a_seenBottom, a_seenRight, a_taskKind, a_taskTop, a_taskLeft, a_taskBottom, a_taskRight) (nI (y + fo_B t i)) := by
  have zi := fo_sz wf i hi
  have li := fo_L_le wf i hi
  obtain ⟨o1, o2, o3⟩ := fo_op wf hi h10
  obtain ⟨q3, _, _⟩ := fo_D_c h10 h12 o1
  obtain ⟨a, b, e1, e2, e3, e4⟩ := fo_scan wf (by omega) i hi (G (y + fo_B t i)) x (-1) (-1) (bx_row zi.2.2.1 hb)
  refine xw_findSplit (a := a) (b := b) h1 h2 gd hG (by omega) (by omega) (by omega) ?_ ?_
  · rw [show x + (fo_W t i + 2 * 0) - 1 + 1 - x = fo_W t i by omega]; exact e1
  · by_cases c : t i = 12
    · obtain ⟨u, v⟩ := e3 c
      rw [u, v]
      exact br_t (by decide) h
    · rw [e2 (by omega)]
      exact br_f (nI_pos (by omega)) h
theorem ex_split_o {post : Int32 → Prop} (h1 : rows ≤ 10) (h2 : cols ≤ 25) (gd : gd_ok rows cols G a_grid) (hG : ∀ r c, G r c < 1000) (wf : fo_WF t n) (hn : n ≤ 31) (hi : i < n) (hy : y + fo_H t i ≤ rows) (ho : t i < 10 ∨ 13 ≤ t i) (hx : x + (fo_W t i + 2 * 0) ≤ cols) (hb : fo_Box G t i 0 y x) (h : post (-1)) : wpX_findSplit post (nI rows, nI cols, f_room, f_entryCount, f_open, f_readCount, f_seenCount, f_taskCount, nI y, nI x, nI (y + fo_H t i - 1), nI (x + (fo_W t i + 2 * 0) - 1), a_entry, a_boxStart, a_boxW, a_boxH, a_boxB, a_posRow, a_posCol, a_grid, a_readList, a_seenToken, a_seenTop, a_seenLeft, a_seenBottom, a_seenRight, a_taskKind, a_taskTop, a_taskLeft, a_taskBottom, a_taskRight) (nI (y + fo_B t i)) := by
  have zi := fo_sz wf i hi
  have li := fo_L_le wf i hi
  obtain ⟨a, b, e1, e2, e3, e4⟩ := fo_scan wf (by omega) i hi (G (y + fo_B t i)) x (-1) (-1) (bx_row zi.2.2.1 hb)
  refine xw_findSplit (a := a) (b := b) h1 h2 gd hG (by omega) (by omega) (by omega) ?_ ?_
  · rw [show x + (fo_W t i + 2 * 0) - 1 + 1 - x = fo_W t i by omega]; exact e1
  · obtain ⟨u, v⟩ := e4 ho
    rw [u, v]
    exact br_t (by decide) h
theorem ex_chain {post : SX → Prop} (h1 : rows ≤ 10) (h2 : cols ≤ 25) (gd : gd_ok rows cols G a_grid) (hG : ∀ r c, G r c < 1000) (wf : fo_WF t n) (hn : n ≤ 31) (hi : i < n) (hy : y + fo_H t i ≤ rows) (h10 : 10 ≤ t i) (h12 : t i ≤ 12) (hx : x + (fo_W t i + 2 * 0) ≤ cols) (hb : fo_Box G t i 0 y x) (hk : k + 3 ≤ 128)
    (K : ∀ KK TT LL BB RR, tk_eq k a_taskKind a_taskTop a_taskLeft a_taskBottom a_taskRight KK TT LL BB RR → tk_at KK TT LL BB RR k (nI (t i)) y x (y + fo_H t i - 1) (x + fo_W t i - 1) → tk_at KK TT LL BB RR (k + 1) (-1) y (x + (fo_W t (fo_f t i) + 2 * fo_pA t i) + 1) (y + fo_H t i - 1) (x + fo_W t i - 1) → tk_at KK TT LL BB RR (k + 2) (-1) y x (y + fo_H t i - 1) (x + (fo_W t (fo_f t i) + 2 * fo_pA t i) - 1) → post (nI rows, nI cols, f_room, f_entryCount, f_open, f_readCount, f_seenCount, nI (k + 3), nI y, nI x, nI (y + fo_H t i - 1), nI (x + (fo_W t i + 2 * 0) - 1), a_entry, a_boxStart, a_boxW, a_boxH, a_boxB, a_posRow, a_posCol, a_grid, a_readList, a_seenToken, a_seenTop, a_seenLeft, a_seenBottom, a_seenRight, KK, TT, LL, BB, RR)) :
    wpX_expand post (nI rows, nI cols, f_room, f_entryCount, f_open, f_readCount, f_seenCount, nI k, nI y, nI x, nI (y + fo_H t i - 1), nI (x + (fo_W t i + 2 * 0) - 1), a_entry, a_boxStart, a_boxW, a_boxH, a_boxB, a_posRow, a_posCol, a_grid, a_readList, a_seenToken, a_seenTop, a_seenLeft, a_seenBottom, a_seenRight, a_taskKind, a_taskTop, a_taskLeft, a_taskBottom, a_taskRight) := by
  have zi := fo_sz wf i hi
  obtain ⟨o1, o2, o3⟩ := fo_op wf hi h10
  obtain ⟨q3, _, _⟩ := fo_D_c h10 h12 o1
  have za := (fo_sz wf (fo_f t i) (by omega)).1
  have row := bx_row zi.2.2.1 hb
  obtain ⟨r1, r2, r3⟩ := fo_row_A wf hi h10 h12 row
  unfold wpX_expand
  refine ex_line h1 h2 gd hG wf hn hi hy (by omega) hx hb ?_
  refine ex_split_c h1 h2 gd hG wf hn hi hy h10 h12 hx hb ?_
  refine xw_cellG h1 h2 gd (by omega) (by omega) ?_
  refine br_f (nI_pos (by omega)) ?_
  refine xw_cellG h1 h2 gd (by omega) (by omega) ?_
  rw [r2]
  refine xw_tokenOf h10 h12 ?_
  refine xw_expandPair (by omega) ?_
  refine xw_pushTask (by omega) ?_
  refine xw_pushTask (by omega) ?_
  obtain ⟨k1, k2, k3, k4⟩ := tk_3 (K := a_taskKind) (T := a_taskTop) (L := a_taskLeft) (B := a_taskBottom) (R := a_taskRight) (k := k) (v0 := nI (t i)) (v1 := -1) (v2 := -1) (a0 := y) (b0 := x) (c0 := y + fo_H t i - 1) (d0 := x + fo_W t i - 1) (a1 := y) (b1 := x + (fo_W t (fo_f t i) + 2 * fo_pA t i) + 1) (c1 := y + fo_H t i - 1) (d1 := x + fo_W t i - 1) (a2 := y) (b2 := x) (c2 := y + fo_H t i - 1) (d2 := x + (fo_W t (fo_f t i) + 2 * fo_pA t i) - 1) rfl rfl rfl rfl rfl
  rw [nI_1 (x + (fo_W t (fo_f t i) + 2 * fo_pA t i)), xw_pr (i := x + (fo_W t (fo_f t i) + 2 * fo_pA t i)) (by omega)]
  exact K _ _ _ _ _ k1 k2 k3 k4
theorem ex_frac {post : SX → Prop} (h1 : rows ≤ 10) (h2 : cols ≤ 25) (gd : gd_ok rows cols G a_grid) (hG : ∀ r c, G r c < 1000) (wf : fo_WF t n) (hn : n ≤ 31) (hi : i < n) (hy : y + fo_H t i ≤ rows) (h13 : t i = 13) (hx : x + (fo_W t i + 2 * 0) ≤ cols) (hb : fo_Box G t i 0 y x) (hk : k + 3 ≤ 128)
    (K : ∀ KK TT LL BB RR, tk_eq k a_taskKind a_taskTop a_taskLeft a_taskBottom a_taskRight KK TT LL BB RR → tk_at KK TT LL BB RR k (nI (t i)) y x (y + fo_H t i - 1) (x + fo_W t i - 1) → tk_at KK TT LL BB RR (k + 1) (-1) (y + fo_H t (fo_f t i) + 1) x (y + fo_H t i - 1) (x + fo_W t i - 1) → tk_at KK TT LL BB RR (k + 2) (-1) y x (y + fo_H t (fo_f t i) - 1) (x + fo_W t i - 1) → post (nI rows, nI cols, f_room, f_entryCount, f_open, f_readCount, f_seenCount, nI (k + 3), nI y, nI x, nI (y + fo_H t i - 1), nI (x + (fo_W t i + 2 * 0) - 1), a_entry, a_boxStart, a_boxW, a_boxH, a_boxB, a_posRow, a_posCol, a_grid, a_readList, a_seenToken, a_seenTop, a_seenLeft, a_seenBottom, a_seenRight, KK, TT, LL, BB, RR)) :
    wpX_expand post (nI rows, nI cols, f_room, f_entryCount, f_open, f_readCount, f_seenCount, nI k, nI y, nI x, nI (y + fo_H t i - 1), nI (x + (fo_W t i + 2 * 0) - 1), a_entry, a_boxStart, a_boxW, a_boxH, a_boxB, a_posRow, a_posCol, a_grid, a_readList, a_seenToken, a_seenTop, a_seenLeft, a_seenBottom, a_seenRight, a_taskKind, a_taskTop, a_taskLeft, a_taskBottom, a_taskRight) := by
  have zi := fo_sz wf i hi
  obtain ⟨o1, o2, o3⟩ := fo_op wf hi (by omega)
  obtain ⟨q1, q2, q3, q4, q5⟩ := fo_D_13 h13 o1
  have za := (fo_sz wf (fo_f t i) (by omega)).2.2.1
  have row := bx_row zi.2.2.1 hb
  have g0 : G (y + fo_B t i) x = 95 := by
    have := row 0 (by omega)
    rw [fo_bp0, fo_vR wf hi h13 q5] at this; exact this
  unfold wpX_expand
  refine ex_line h1 h2 gd hG wf hn hi hy (by omega) hx hb ?_
  refine ex_split_o h1 h2 gd hG wf hn hi hy (by omega) hx hb ?_
  refine xw_cellG h1 h2 gd (by omega) (by omega) ?_
  rw [g0]
  refine br_t (by decide) (br_t rfl ?_)
  refine xw_expandPair (by omega) ?_
  refine xw_pushTask (by omega) ?_
  refine xw_pushTask (by omega) ?_
  obtain ⟨k1, k2, k3, k4⟩ := tk_3 (K := a_taskKind) (T := a_taskTop) (L := a_taskLeft) (B := a_taskBottom) (R := a_taskRight) (k := k) (v0 := nI (t i)) (v1 := -1) (v2 := -1) (a0 := y) (b0 := x) (c0 := y + fo_H t i - 1) (d0 := x + fo_W t i - 1) (a1 := y + fo_H t (fo_f t i) + 1) (b1 := x) (c1 := y + fo_H t i - 1) (d1 := x + fo_W t i - 1) (a2 := y) (b2 := x) (c2 := y + fo_H t (fo_f t i) - 1) (d2 := x + fo_W t i - 1) rfl rfl rfl rfl rfl
  rw [nI_1 (y + fo_B t i), xw_pr (i := y + fo_B t i) (by omega), q5]
  have K' := K _ _ _ _ _ k1 k2 k3 k4
  rw [h13] at K'
  exact K'
theorem ex_powd {post : SX → Prop} (h1 : rows ≤ 10) (h2 : cols ≤ 25) (gd : gd_ok rows cols G a_grid) (hG : ∀ r c, G r c < 1000) (wf : fo_WF t n) (hn : n ≤ 31) (hi : i < n) (hy : y + fo_H t i ≤ rows) (h14 : t i = 14) (pA0 : fo_pA t i = 0) (hx : x + (fo_W t i + 2 * 0) ≤ cols) (hb : fo_Box G t i 0 y x) (hk : k + 3 ≤ 128)
    (K : ∀ KK TT LL BB RR, tk_eq k a_taskKind a_taskTop a_taskLeft a_taskBottom a_taskRight KK TT LL BB RR → tk_at KK TT LL BB RR k (nI (t i)) y x (y + fo_H t i - 1) (x + fo_W t i - 1) → tk_at KK TT LL BB RR (k + 1) (-1) y (x + (fo_W t (fo_f t i) + 2 * fo_pA t i)) (y + fo_H t (i - 1) - 1) (x + fo_W t i - 1) → tk_at KK TT LL BB RR (k + 2) (-1) (y + fo_H t (i - 1)) (x + fo_pA t i) (y + fo_H t i - 1) (x + fo_pA t i + fo_W t (fo_f t i) - 1) → post (nI rows, nI cols, f_room, f_entryCount, f_open, f_readCount, f_seenCount, nI (k + 3), nI y, nI x, nI (y + fo_H t i - 1), nI (x + (fo_W t i + 2 * 0) - 1), a_entry, a_boxStart, a_boxW, a_boxH, a_boxB, a_posRow, a_posCol, a_grid, a_readList, a_seenToken, a_seenTop, a_seenLeft, a_seenBottom, a_seenRight, KK, TT, LL, BB, RR)) :
    wpX_expand post (nI rows, nI cols, f_room, f_entryCount, f_open, f_readCount, f_seenCount, nI k, nI y, nI x, nI (y + fo_H t i - 1), nI (x + (fo_W t i + 2 * 0) - 1), a_entry, a_boxStart, a_boxW, a_boxH, a_boxB, a_posRow, a_posCol, a_grid, a_readList, a_seenToken, a_seenTop, a_seenLeft, a_seenBottom, a_seenRight, a_taskKind, a_taskTop, a_taskLeft, a_taskBottom, a_taskRight) := by
  have zi := fo_sz wf i hi
  obtain ⟨o1, o2, o3⟩ := fo_op wf hi (by omega)
  obtain ⟨q2, q3, q4, q5⟩ := fo_D_14 h14 o1
  have td := fo_padA14 h14 pA0
  obtain ⟨d1, d2, d3⟩ := fo_D_d td
  have zs := fo_sz wf (i - 1) (by omega)
  have row := bx_row zi.2.2.1 hb
  have g0 : G (y + fo_B t i) x = 48 + t (fo_f t i) := by
    have := (fo_row_P wf hi h14 row).1 0 (by omega)
    rw [pA0, fo_bp0, fo_pic_d td] at this; exact this
  unfold wpX_expand
  refine ex_line h1 h2 gd hG wf hn hi hy (by omega) hx hb ?_
  refine ex_split_o h1 h2 gd hG wf hn hi hy (by omega) hx hb ?_
  refine xw_cellG h1 h2 gd (by omega) (by omega) ?_
  rw [g0]
  refine br_t (by decide) (pk_eq (48 + t (fo_f t i)) 95 (fun z => absurd z (by omega)) (fun _ => pk_eq (48 + t (fo_f t i)) 40 (fun z => absurd z (by omega)) (fun _ => pk_eq x (x + (fo_W t i + 2 * 0) - 1) (fun z => absurd z (by omega)) (fun _ => ?_))))
  refine xw_expandPair (by omega) ?_
  refine xw_pushTask (by omega) ?_
  refine xw_pushTask (by omega) ?_
  obtain ⟨k1, k2, k3, k4⟩ := tk_3 (K := a_taskKind) (T := a_taskTop) (L := a_taskLeft) (B := a_taskBottom) (R := a_taskRight) (k := k) (v0 := nI (t i)) (v1 := -1) (v2 := -1) (a0 := y) (b0 := x) (c0 := y + fo_H t i - 1) (d0 := x + fo_W t i - 1) (a1 := y) (b1 := x + (fo_W t (fo_f t i) + 2 * fo_pA t i)) (c1 := y + fo_H t (i - 1) - 1) (d1 := x + fo_W t i - 1) (a2 := y + fo_H t (i - 1)) (b2 := x + fo_pA t i) (c2 := y + fo_H t i - 1) (d2 := x + fo_pA t i + fo_W t (fo_f t i) - 1) rfl rfl rfl rfl rfl
  have K' := K _ _ _ _ _ k1 k2 k3 k4
  rw [nI_1 x, xw_pr (i := y + fo_B t i) (by omega), show y + fo_B t i = y + fo_H t (i - 1) by omega]
  rw [h14, show x + (fo_W t (fo_f t i) + 2 * fo_pA t i) = x + 1 by omega, show x + fo_pA t i + fo_W t (fo_f t i) - 1 = x by omega, show x + fo_pA t i = x by omega, show upd (upd (upd a_taskBottom k (nI (y + fo_H t i - 1))) (k + 1) (nI (y + fo_H t (i - 1) - 1))) (k + 1 + 1) (nI (y + fo_H t i - 1)) = upd (upd (upd a_taskBottom k (nI (y + fo_H t i - 1))) (k + 1) (nI (y + fo_H t (i - 1) - 1))) (k + 1 + 1) (nI (y + fo_H t (i - 1))) by rw [show y + fo_H t i - 1 = y + fo_H t (i - 1) by omega]] at K'
  exact K'
theorem ex_brk {post : SX → Prop} (h1 : rows ≤ 10) (h2 : cols ≤ 25) (gd : gd_ok rows cols G a_grid) (hG : ∀ r c, G r c < 1000) (wf : fo_WF t n) (hn : n ≤ 31) (hi : i < n) (hy : y + fo_H t i ≤ rows) (hx : x + (fo_W t i + 2 * 1) ≤ cols) (hb : fo_Box G t i 1 y x) (hk : k + 1 ≤ 128)
    (K : ∀ KK TT LL BB RR, tk_eq k a_taskKind a_taskTop a_taskLeft a_taskBottom a_taskRight KK TT LL BB RR → tk_at KK TT LL BB RR k (-1) y (x + 1) (y + fo_H t i - 1) (x + fo_W t i) → post (nI rows, nI cols, f_room, f_entryCount, f_open, f_readCount, f_seenCount, nI (k + 1), nI y, nI x, nI (y + fo_H t i - 1), nI (x + (fo_W t i + 2 * 1) - 1), a_entry, a_boxStart, a_boxW, a_boxH, a_boxB, a_posRow, a_posCol, a_grid, a_readList, a_seenToken, a_seenTop, a_seenLeft, a_seenBottom, a_seenRight, KK, TT, LL, BB, RR)) :
    wpX_expand post (nI rows, nI cols, f_room, f_entryCount, f_open, f_readCount, f_seenCount, nI k, nI y, nI x, nI (y + fo_H t i - 1), nI (x + (fo_W t i + 2 * 1) - 1), a_entry, a_boxStart, a_boxW, a_boxH, a_boxB, a_posRow, a_posCol, a_grid, a_readList, a_seenToken, a_seenTop, a_seenLeft, a_seenBottom, a_seenRight, a_taskKind, a_taskTop, a_taskLeft, a_taskBottom, a_taskRight) := by
  have zi := fo_sz wf i hi
  have row := bx_row zi.2.2.1 hb
  obtain ⟨r1, r2, r3⟩ := fo_row_in row
  unfold wpX_expand
  refine ex_line h1 h2 gd hG wf hn hi hy (by omega) hx hb ?_
  refine ex_split_b h1 h2 gd hG wf hn hi hy hx hb ?_
  refine xw_cellG h1 h2 gd (by omega) (by omega) ?_
  rw [r1]
  refine br_t (by decide) (br_f (by decide) (br_t rfl ?_))
  unfold wpX_expandBracket
  refine xw_findClose (k := fo_W t i) h1 h2 gd hG (by omega) (by omega) (by omega) r1 r2 (fo_ps wf i hi _ _ 1 (by omega) r3) ?_
  refine xw_firstInk (q := y) h1 h2 gd hG (by omega) (by omega) (by omega) (by omega) (fun r a b => by omega) ?_ ?_
  · have := hb 0 0 (by omega) (by omega)
    rw [fo_bp1l] at this
    rw [show G y x = 40 from this]; decide
  refine br_t (nI_le (by omega) (by omega)) ?_
  refine xw_pushTask (by omega) ?_
  obtain ⟨k1, k2⟩ := tk_1 (K := a_taskKind) (T := a_taskTop) (L := a_taskLeft) (B := a_taskBottom) (R := a_taskRight) (k := k) (v0 := -1) (a0 := y) (b0 := x + 1) (c0 := y + fo_H t i - 1) (d0 := x + fo_W t i)
  have K' := K _ _ _ _ _ k1 k2
  rw [nI_1 x, xw_pr (i := x + fo_W t i + 1) (by omega)]
  exact K'
theorem ex_powb {post : SX → Prop} (h1 : rows ≤ 10) (h2 : cols ≤ 25) (gd : gd_ok rows cols G a_grid) (hG : ∀ r c, G r c < 1000) (wf : fo_WF t n) (hn : n ≤ 31) (hi : i < n) (hy : y + fo_H t i ≤ rows) (h14 : t i = 14) (pA1 : fo_pA t i = 1) (hx : x + (fo_W t i + 2 * 0) ≤ cols) (hb : fo_Box G t i 0 y x) (hk : k + 3 ≤ 128)
    (K : ∀ KK TT LL BB RR, tk_eq k a_taskKind a_taskTop a_taskLeft a_taskBottom a_taskRight KK TT LL BB RR → tk_at KK TT LL BB RR k (nI (t i)) y x (y + fo_H t i - 1) (x + fo_W t i - 1) → tk_at KK TT LL BB RR (k + 1) (-1) y (x + (fo_W t (fo_f t i) + 2 * fo_pA t i)) (y + fo_H t (i - 1) - 1) (x + fo_W t i - 1) → tk_at KK TT LL BB RR (k + 2) (-1) (y + fo_H t (i - 1)) (x + fo_pA t i) (y + fo_H t i - 1) (x + fo_pA t i + fo_W t (fo_f t i) - 1) → post (nI rows, nI cols, f_room, f_entryCount, f_open, f_readCount, f_seenCount, nI (k + 3), nI y, nI x, nI (y + fo_H t i - 1), nI (x + (fo_W t i + 2 * 0) - 1), a_entry, a_boxStart, a_boxW, a_boxH, a_boxB, a_posRow, a_posCol, a_grid, a_readList, a_seenToken, a_seenTop, a_seenLeft, a_seenBottom, a_seenRight, KK, TT, LL, BB, RR)) :
    wpX_expand post (nI rows, nI cols, f_room, f_entryCount, f_open, f_readCount, f_seenCount, nI k, nI y, nI x, nI (y + fo_H t i - 1), nI (x + (fo_W t i + 2 * 0) - 1), a_entry, a_boxStart, a_boxW, a_boxH, a_boxB, a_posRow, a_posCol, a_grid, a_readList, a_seenToken, a_seenTop, a_seenLeft, a_seenBottom, a_seenRight, a_taskKind, a_taskTop, a_taskLeft, a_taskBottom, a_taskRight) := by
  have zi := fo_sz wf i hi
  obtain ⟨o1, o2, o3⟩ := fo_op wf hi (by omega)
  obtain ⟨q2, q3, q4, q5⟩ := fo_D_14 h14 o1
  obtain ⟨g1, g2, g3, g4⟩ := fo_g14 h14
  have zs := fo_sz wf (i - 1) (by omega)
  have zf := fo_sz wf (fo_f t i) (by omega)
  have row := bx_row zi.2.2.1 hb
  have rp := (fo_row_P wf hi h14 row).1
  rw [pA1] at rp
  obtain ⟨r1, r2, r3⟩ := fo_row_in rp
  unfold wpX_expand
  refine ex_line h1 h2 gd hG wf hn hi hy (by omega) hx hb ?_
  refine ex_split_o h1 h2 gd hG wf hn hi hy (by omega) hx hb ?_
  refine xw_cellG h1 h2 gd (by omega) (by omega) ?_
  rw [r1]
  refine br_t (by decide) (br_f (by decide) (br_t rfl ?_))
  unfold wpX_expandBracket
  refine xw_findClose (k := fo_W t (fo_f t i)) h1 h2 gd hG (by omega) (by omega) (by omega) r1 r2 (fo_ps wf (fo_f t i) (by omega) _ _ 1 (by omega) r3) ?_
  refine xw_firstInk (q := y + fo_H t (i - 1)) h1 h2 gd hG (by omega) (by omega) (by omega) (by omega) ?_ ?_ ?_
  · intro r a b
    have := hb (r - y) 0 (by omega) (by omega)
    rw [fo_bp0, fo_vE wf hi h14 (by omega) (by omega), if_neg (by omega), show y + (r - y) = r by omega, Nat.add_zero] at this
    exact this
  · have := hb (fo_H t (i - 1) + 0) 0 (by omega) (by omega)
    rw [fo_bp0, fo_vP wf hi h14 (by omega), if_pos (by omega), pA1, fo_bp1l, Nat.add_zero, Nat.add_zero] at this
    rw [this]; decide
  refine br_f (nI_ge (by omega) (by omega)) ?_
  refine xw_expandPair (by omega) ?_
  refine xw_pushTask (by omega) ?_
  refine xw_pushTask (by omega) ?_
  obtain ⟨k1, k2, k3, k4⟩ := tk_3 (K := a_taskKind) (T := a_taskTop) (L := a_taskLeft) (B := a_taskBottom) (R := a_taskRight) (k := k) (v0 := nI (t i)) (v1 := -1) (v2 := -1) (a0 := y) (b0 := x) (c0 := y + fo_H t i - 1) (d0 := x + fo_W t i - 1) (a1 := y) (b1 := x + (fo_W t (fo_f t i) + 2 * fo_pA t i)) (c1 := y + fo_H t (i - 1) - 1) (d1 := x + fo_W t i - 1) (a2 := y + fo_H t (i - 1)) (b2 := x + fo_pA t i) (c2 := y + fo_H t i - 1) (d2 := x + fo_pA t i + fo_W t (fo_f t i) - 1) rfl rfl rfl rfl rfl
  have K' := K _ _ _ _ _ k1 k2 k3 k4
  rw [nI_1 x, nI_1 (x + fo_W t (fo_f t i) + 1), xw_pr (i := x + fo_W t (fo_f t i) + 1) (by omega), xw_pr (i := y + fo_H t (i - 1)) (by omega)]
  rw [h14, show x + (fo_W t (fo_f t i) + 2 * fo_pA t i) = x + fo_W t (fo_f t i) + 1 + 1 by omega, show x + fo_pA t i + fo_W t (fo_f t i) - 1 = x + fo_W t (fo_f t i) + 1 - 1 by omega, show x + fo_pA t i = x + 1 by omega] at K'
  exact K'
theorem ex_digit {post : SX → Prop} {m : Nat} (h1 : rows ≤ 10) (h2 : cols ≤ 25) (gd : gd_ok rows cols G a_grid) (hG : ∀ r c, G r c < 1000) (wf : fo_WF t n) (hn : n ≤ 31) (hi : i < n) (hy : y + fo_H t i ≤ rows) (hd : t i < 10) (hx : x + (fo_W t i + 2 * 0) ≤ cols) (hb : fo_Box G t i 0 y x) (hm : m < 31)
    (K : post (nI rows, nI cols, f_room, f_entryCount, f_open, f_readCount, nI (m + 1), f_taskCount, nI y, nI x, nI (y + fo_H t i - 1), nI (x + (fo_W t i + 2 * 0) - 1), a_entry, a_boxStart, a_boxW, a_boxH, a_boxB, a_posRow, a_posCol, a_grid, a_readList, upd a_seenToken m (nI (t i)), upd a_seenTop m (nI y), upd a_seenLeft m (nI x), upd a_seenBottom m (nI (y + fo_H t i - 1)), upd a_seenRight m (nI (x + (fo_W t i + 2 * 0) - 1)), a_taskKind, a_taskTop, a_taskLeft, a_taskBottom, a_taskRight)) :
    wpX_expand post (nI rows, nI cols, f_room, f_entryCount, f_open, f_readCount, nI m, f_taskCount, nI y, nI x, nI (y + fo_H t i - 1), nI (x + (fo_W t i + 2 * 0) - 1), a_entry, a_boxStart, a_boxW, a_boxH, a_boxB, a_posRow, a_posCol, a_grid, a_readList, a_seenToken, a_seenTop, a_seenLeft, a_seenBottom, a_seenRight, a_taskKind, a_taskTop, a_taskLeft, a_taskBottom, a_taskRight) := by
  have zi := fo_sz wf i hi
  obtain ⟨d1, d2, d3⟩ := fo_D_d hd
  have row := bx_row zi.2.2.1 hb
  have g0 : G (y + fo_B t i) x = 48 + t i := by
    have := row 0 (by omega)
    rw [fo_bp0, fo_pic_d hd] at this; exact this
  unfold wpX_expand
  refine ex_line h1 h2 gd hG wf hn hi hy (by omega) hx hb ?_
  refine ex_split_o h1 h2 gd hG wf hn hi hy (by omega) hx hb ?_
  refine xw_cellG h1 h2 gd (by omega) (by omega) ?_
  rw [g0]
  refine br_t (by decide) (pk_eq (48 + t i) 95 (fun z => absurd z (by omega)) (fun _ => pk_eq (48 + t i) 40 (fun z => absurd z (by omega)) (fun _ => pk_eq x (x + (fo_W t i + 2 * 0) - 1) (fun _ => ?_) (fun z => absurd z (by omega)))))
  rw [show nI (48 + t i) - 48 = nI (t i) by rw [show nI (48 + t i) - 48 = nI (48 + t i) - nI 48 from rfl, pk_sub (by omega)]; exact congrArg nI (by omega)]
  exact xw_emit hm K
end
end
section
/-! the component: recognising the picture -/
/-- the seen list up to hi: tokens with their boxes -/
def sn_ok (t yy xx : Nat → Nat) (hi : Nat) (a_seenToken a_seenTop a_seenLeft a_seenBottom a_seenRight : Nat → Int32) : Prop := ∀ j, j < hi → a_seenToken j = nI (t j) ∧ a_seenTop j = nI (yy j) ∧ a_seenLeft j = nI (xx j) ∧ a_seenBottom j = nI (yy j + fo_H t j - 1) ∧ a_seenRight j = nI (xx j + fo_W t j - 1)
theorem sn_s {t yy xx : Nat → Nat} {m : Nat} {a_seenToken a_seenTop a_seenLeft a_seenBottom a_seenRight : Nat → Int32} (h : sn_ok t yy xx m a_seenToken a_seenTop a_seenLeft a_seenBottom a_seenRight) {a b c d e : Int32} (ha : a = nI (t m)) (hb : b = nI (yy m)) (hc : c = nI (xx m)) (hd : d = nI (yy m + fo_H t m - 1)) (he : e = nI (xx m + fo_W t m - 1)) :
    sn_ok t yy xx (m + 1) (upd a_seenToken m a) (upd a_seenTop m b) (upd a_seenLeft m c) (upd a_seenBottom m d) (upd a_seenRight m e) := by
  subst ha hb hc hd he
  intro j hj
  by_cases q : j = m
  · subst q; exact ⟨pk_us, pk_us, pk_us, pk_us, pk_us⟩
  · rw [pk_un q, pk_un q, pk_un q, pk_un q, pk_un q]; exact h j (by omega)
section
variable {f_rows f_cols f_room f_entryCount f_open f_readCount f_seenCount f_taskCount f_curTop f_curLeft f_curBottom f_curRight : Int32} {a_entry a_boxStart a_boxW a_boxH a_boxB a_posRow a_posCol a_grid a_readList a_seenToken a_seenTop a_seenLeft a_seenBottom a_seenRight a_taskKind a_taskTop a_taskLeft a_taskBottom a_taskRight : Nat → Int32}
variable {G : Nat → Nat → Nat} {rows cols : Nat} {t yy xx : Nat → Nat} {n k : Nat}
theorem rt_emit {post : SX → Prop} {m tok a b c d : Nat} (hk : k < 128) (hm : m < 31) (ht : tok ≤ 14) (tk : tk_at a_taskKind a_taskTop a_taskLeft a_taskBottom a_taskRight k (nI tok) a b c d)
    (hp : post (f_rows, f_cols, f_room, f_entryCount, f_open, f_readCount, nI (m + 1), nI k, nI a, nI b, nI c, nI d, a_entry, a_boxStart, a_boxW, a_boxH, a_boxB, a_posRow, a_posCol, a_grid, a_readList, upd a_seenToken m (nI tok), upd a_seenTop m (nI a), upd a_seenLeft m (nI b), upd a_seenBottom m (nI c), upd a_seenRight m (nI d), a_taskKind, a_taskTop, a_taskLeft, a_taskBottom, a_taskRight)) :
    wpX_runTask post (f_rows, f_cols, f_room, f_entryCount, f_open, f_readCount, nI m, nI (k + 1), f_curTop, f_curLeft, f_curBottom, f_curRight, a_entry, a_boxStart, a_boxW, a_boxH, a_boxB, a_posRow, a_posCol, a_grid, a_readList, a_seenToken, a_seenTop, a_seenLeft, a_seenBottom, a_seenRight, a_taskKind, a_taskTop, a_taskLeft, a_taskBottom, a_taskRight) := by
  obtain ⟨e1, e2, e3, e4, e5⟩ := tk
  have ck : (nI k).toNatClampNeg = k := nI_clamp (by omega)
  have nk : vp_in (nI k) 128 := pk_in k 128 hk
  unfold wpX_runTask
  refine nm_r (nI_pred k) ⟨nk, nm_r (e' := nI tok) (by rw [ck, e1]) ⟨nk, nm_r (e' := nI a) (by rw [ck, e2]) ⟨nk, nm_r (e' := nI b) (by rw [ck, e3]) ⟨nk, nm_r (e' := nI c) (by rw [ck, e4]) ⟨nk, nm_r (e' := nI d) (by rw [ck, e5]) ?_⟩⟩⟩⟩⟩
  refine br_f (nI_pos (by omega)) ?_
  exact xw_emit hm hp
theorem rt_reg {post : SX → Prop} {T L Bt R y x h w : Nat} {g : Nat → Nat → Nat} (h1 : rows ≤ 10) (h2 : cols ≤ 25) (gd : gd_ok rows cols G a_grid) (hG : ∀ r c, G r c < 1000) (hk : k < 128) (tk : tk_at a_taskKind a_taskTop a_taskLeft a_taskBottom a_taskRight k (-1) T L Bt R) (reg : fo_Reg G T L Bt R y x h w g) (ink : fo_Ink g h w) (hh : 1 ≤ h) (hw : 1 ≤ w) (hR : R < cols) (hB : Bt < rows)
    (E : ∀ post' : SX → Prop, (∀ {f_rows f_cols f_room f_entryCount f_open f_readCount f_seenCount f_taskCount f_curTop f_curLeft f_curBottom f_curRight : Int32} {a_entry a_boxStart a_boxW a_boxH a_boxB a_posRow a_posCol a_grid a_readList a_seenToken a_seenTop a_seenLeft a_seenBottom a_seenRight a_taskKind a_taskTop a_taskLeft a_taskBottom a_taskRight : Nat → Int32}, post (f_rows, f_cols, f_room, f_entryCount, f_open, f_readCount, f_seenCount, f_taskCount, f_curTop, f_curLeft, f_curBottom, f_curRight, a_entry, a_boxStart, a_boxW, a_boxH, a_boxB, a_posRow, a_posCol, a_grid, a_readList, a_seenToken, a_seenTop, a_seenLeft, a_seenBottom, a_seenRight, a_taskKind, a_taskTop, a_taskLeft, a_taskBottom, a_taskRight) → post' (f_rows, f_cols, f_room, f_entryCount, f_open, f_readCount, f_seenCount, f_taskCount, f_curTop, f_curLeft, f_curBottom, f_curRight, a_entry, a_boxStart, a_boxW, a_boxH, a_boxB, a_posRow, a_posCol, a_grid, a_readList, a_seenToken, a_seenTop, a_seenLeft, a_seenBottom, a_seenRight, a_taskKind, a_taskTop, a_taskLeft, a_taskBottom, a_taskRight)) → wpX_expand post' (nI rows, nI cols, f_room, f_entryCount, f_open, f_readCount, f_seenCount, nI k, nI y, nI x, nI (y + h - 1), nI (x + w - 1), a_entry, a_boxStart, a_boxW, a_boxH, a_boxB, a_posRow, a_posCol, a_grid, a_readList, a_seenToken, a_seenTop, a_seenLeft, a_seenBottom, a_seenRight, a_taskKind, a_taskTop, a_taskLeft, a_taskBottom, a_taskRight)) :
    wpX_runTask post (nI rows, nI cols, f_room, f_entryCount, f_open, f_readCount, f_seenCount, nI (k + 1), f_curTop, f_curLeft, f_curBottom, f_curRight, a_entry, a_boxStart, a_boxW, a_boxH, a_boxB, a_posRow, a_posCol, a_grid, a_readList, a_seenToken, a_seenTop, a_seenLeft, a_seenBottom, a_seenRight, a_taskKind, a_taskTop, a_taskLeft, a_taskBottom, a_taskRight) := by
  obtain ⟨e1, e2, e3, e4, e5⟩ := tk
  have ck : (nI k).toNatClampNeg = k := nI_clamp (by omega)
  have nk : vp_in (nI k) 128 := pk_in k 128 hk
  unfold wpX_runTask
  refine nm_r (nI_pred k) ⟨nk, nm_r (e' := -1) (by rw [ck, e1]) ⟨nk, nm_r (e' := nI T) (by rw [ck, e2]) ⟨nk, nm_r (e' := nI L) (by rw [ck, e3]) ⟨nk, nm_r (e' := nI Bt) (by rw [ck, e4]) ⟨nk, nm_r (e' := nI R) (by rw [ck, e5]) ?_⟩⟩⟩⟩⟩
  refine br_t (by decide) ?_
  refine xw_trim h1 h2 gd hG reg ink hh hw hR hB ?_
  refine br_f (by decide) ?_
  refine E _ ?_
  intros
  assumption
theorem rt_blank {post : SX → Prop} {T L Bt R : Nat} (h1 : rows ≤ 10) (h2 : cols ≤ 25) (hb : ∀ r c, r < rows → c < cols → a_grid (r * cols + c) = 32) (hk : k < 128) (tk : tk_at a_taskKind a_taskTop a_taskLeft a_taskBottom a_taskRight k (-1) T L Bt R) (hLR : L ≤ R + 1) (hTB : T ≤ Bt + 1) (hR : R < cols) (hB : Bt < rows)
    (hp : post (nI rows, nI cols, f_room, f_entryCount, f_open, f_readCount, f_seenCount, nI k, nI rows, nI cols, -1, -1, a_entry, a_boxStart, a_boxW, a_boxH, a_boxB, a_posRow, a_posCol, a_grid, a_readList, a_seenToken, a_seenTop, a_seenLeft, a_seenBottom, a_seenRight, a_taskKind, a_taskTop, a_taskLeft, a_taskBottom, a_taskRight)) :
    wpX_runTask post (nI rows, nI cols, f_room, f_entryCount, f_open, f_readCount, f_seenCount, nI (k + 1), f_curTop, f_curLeft, f_curBottom, f_curRight, a_entry, a_boxStart, a_boxW, a_boxH, a_boxB, a_posRow, a_posCol, a_grid, a_readList, a_seenToken, a_seenTop, a_seenLeft, a_seenBottom, a_seenRight, a_taskKind, a_taskTop, a_taskLeft, a_taskBottom, a_taskRight) := by
  obtain ⟨e1, e2, e3, e4, e5⟩ := tk
  have ck : (nI k).toNatClampNeg = k := nI_clamp (by omega)
  have nk : vp_in (nI k) 128 := pk_in k 128 hk
  unfold wpX_runTask
  refine nm_r (nI_pred k) ⟨nk, nm_r (e' := -1) (by rw [ck, e1]) ⟨nk, nm_r (e' := nI T) (by rw [ck, e2]) ⟨nk, nm_r (e' := nI L) (by rw [ck, e3]) ⟨nk, nm_r (e' := nI Bt) (by rw [ck, e4]) ⟨nk, nm_r (e' := nI R) (by rw [ck, e5]) ?_⟩⟩⟩⟩⟩
  refine br_t (by decide) ?_
  exact xw_trim0 h1 h2 hb hR hB hLR hTB (br_t rfl hp)
theorem rc_step {post : SX → Prop} {m st : Nat} (hst : st < 200) (hk : k < 128) (E : ∀ post' : SX → Prop, (∀ {f_rows f_cols f_room f_entryCount f_open f_readCount f_seenCount f_taskCount f_curTop f_curLeft f_curBottom f_curRight : Int32} {a_entry a_boxStart a_boxW a_boxH a_boxB a_posRow a_posCol a_grid a_readList a_seenToken a_seenTop a_seenLeft a_seenBottom a_seenRight a_taskKind a_taskTop a_taskLeft a_taskBottom a_taskRight : Nat → Int32}, wX_recognise_31 post m (nI (st + 1)) f_rows f_cols f_room f_entryCount f_open f_readCount f_seenCount f_taskCount f_curTop f_curLeft f_curBottom f_curRight a_entry a_boxStart a_boxW a_boxH a_boxB a_posRow a_posCol a_grid a_readList a_seenToken a_seenTop a_seenLeft a_seenBottom a_seenRight a_taskKind a_taskTop a_taskLeft a_taskBottom a_taskRight → post' (f_rows, f_cols, f_room, f_entryCount, f_open, f_readCount, f_seenCount, f_taskCount, f_curTop, f_curLeft, f_curBottom, f_curRight, a_entry, a_boxStart, a_boxW, a_boxH, a_boxB, a_posRow, a_posCol, a_grid, a_readList, a_seenToken, a_seenTop, a_seenLeft, a_seenBottom, a_seenRight, a_taskKind, a_taskTop, a_taskLeft, a_taskBottom, a_taskRight)) → wpX_runTask post' (f_rows, f_cols, f_room, f_entryCount, f_open, f_readCount, f_seenCount, nI (k + 1), f_curTop, f_curLeft, f_curBottom, f_curRight, a_entry, a_boxStart, a_boxW, a_boxH, a_boxB, a_posRow, a_posCol, a_grid, a_readList, a_seenToken, a_seenTop, a_seenLeft, a_seenBottom, a_seenRight, a_taskKind, a_taskTop, a_taskLeft, a_taskBottom, a_taskRight)) : wX_recognise_31 post (m + 1) (nI st) f_rows f_cols f_room f_entryCount f_open f_readCount f_seenCount (nI (k + 1)) f_curTop f_curLeft f_curBottom f_curRight a_entry a_boxStart a_boxW a_boxH a_boxB a_posRow a_posCol a_grid a_readList a_seenToken a_seenTop a_seenLeft a_seenBottom a_seenRight a_taskKind a_taskTop a_taskLeft a_taskBottom a_taskRight := by
  refine br_f (nI_ge (b := 200) (by omega) (by omega)) (br_f (nI_nle (by omega) (by omega)) ?_)
  refine E _ ?_
  intros
  refine nm_r (nI_1 st) ?_
  assumption
end
end
section
/-! the component: recognising a subformula, by recursion -/
/-- the region of i, with (p = 1) or without brackets, is read in so many steps -/
def rc_B (post : SX → Prop) (G : Nat → Nat → Nat) (rows cols : Nat) (t yy xx : Nat → Nat) (i p cost : Nat) (f_room f_entryCount f_open f_readCount : Int32) (a_entry a_boxStart a_boxW a_boxH a_boxB a_posRow a_posCol a_grid a_readList : Nat → Int32) : Prop :=
  ∀ (m st k T L Bt R x : Nat) (c1 c2 c3 c4 : Int32) (s1 s2 s3 s4 s5 k1 k2 k3 k4 k5 : Nat → Int32), fo_Reg G T L Bt R (yy i) x (fo_H t i) (fo_W t i + 2 * p) (fo_bp t i p) → x + p = xx i → Bt < rows → R < cols → tk_at k1 k2 k3 k4 k5 k (-1) T L Bt R → k + fo_L t i + 1 ≤ 127 → st + cost ≤ 200 → sn_ok t yy xx (i + 1 - fo_L t i) s1 s2 s3 s4 s5 →
    (∀ (d1 d2 d3 d4 : Int32) (u1 u2 u3 u4 u5 l1 l2 l3 l4 l5 : Nat → Int32), tk_eq k k1 k2 k3 k4 k5 l1 l2 l3 l4 l5 → sn_ok t yy xx (i + 1) u1 u2 u3 u4 u5 → wX_recognise_31 post m (nI (st + cost)) (nI rows) (nI cols) f_room f_entryCount f_open f_readCount (nI (i + 1)) (nI k) d1 d2 d3 d4 a_entry a_boxStart a_boxW a_boxH a_boxB a_posRow a_posCol a_grid a_readList u1 u2 u3 u4 u5 l1 l2 l3 l4 l5) →
    wX_recognise_31 post (m + cost) (nI st) (nI rows) (nI cols) f_room f_entryCount f_open f_readCount (nI (i + 1 - fo_L t i)) (nI (k + 1)) c1 c2 c3 c4 a_entry a_boxStart a_boxW a_boxH a_boxB a_posRow a_posCol a_grid a_readList s1 s2 s3 s4 s5 k1 k2 k3 k4 k5
section
variable {f_room f_entryCount f_open f_readCount : Int32} {a_entry a_boxStart a_boxW a_boxH a_boxB a_posRow a_posCol a_grid a_readList : Nat → Int32} {post : SX → Prop}
variable {G : Nat → Nat → Nat} {rows cols : Nat} {t yy xx : Nat → Nat} {n : Nat}
theorem rc_tail {i pf ps cf cs : Nat} (h1 : rows ≤ 10) (h2 : cols ≤ 25) (gd : gd_ok rows cols G a_grid) (hG : ∀ r c, G r c < 1000) (wf : fo_WF t n) (hn : n ≤ 31) (hi : i < n) (hop : 10 ≤ t i) (Cf : rc_B post G rows cols t yy xx (fo_f t i) pf cf f_room f_entryCount f_open f_readCount a_entry a_boxStart a_boxW a_boxH a_boxB a_posRow a_posCol a_grid a_readList) (Cs : rc_B post G rows cols t yy xx (i - 1) ps cs f_room f_entryCount f_open f_readCount a_entry a_boxStart a_boxW a_boxH a_boxB a_posRow a_posCol a_grid a_readList) (m st k T1 L1 B1 R1 x1 T2 L2 B2 R2 x2 : Nat) (c1 c2 c3 c4 : Int32) (s1 s2 s3 s4 s5 k1 k2 k3 k4 k5 : Nat → Int32)
    (r1 : fo_Reg G T1 L1 B1 R1 (yy (i - 1)) x1 (fo_H t (i - 1)) (fo_W t (i - 1) + 2 * ps) (fo_bp t (i - 1) ps)) (e1 : x1 + ps = xx (i - 1)) (b1 : B1 < rows) (b2 : R1 < cols)
    (r2 : fo_Reg G T2 L2 B2 R2 (yy (fo_f t i)) x2 (fo_H t (fo_f t i)) (fo_W t (fo_f t i) + 2 * pf) (fo_bp t (fo_f t i) pf)) (e2 : x2 + pf = xx (fo_f t i)) (b3 : B2 < rows) (b4 : R2 < cols)
    (t0 : tk_at k1 k2 k3 k4 k5 k (nI (t i)) (yy i) (xx i) (yy i + fo_H t i - 1) (xx i + fo_W t i - 1)) (t1 : tk_at k1 k2 k3 k4 k5 (k + 1) (-1) T1 L1 B1 R1) (t2 : tk_at k1 k2 k3 k4 k5 (k + 2) (-1) T2 L2 B2 R2)
    (hk : k + fo_L t i + 1 ≤ 127) (hst : st + (cf + cs + 1) ≤ 200) (sn : sn_ok t yy xx (i + 1 - fo_L t i) s1 s2 s3 s4 s5)
    (K : ∀ (d1 d2 d3 d4 : Int32) (u1 u2 u3 u4 u5 l1 l2 l3 l4 l5 : Nat → Int32), tk_eq k k1 k2 k3 k4 k5 l1 l2 l3 l4 l5 → sn_ok t yy xx (i + 1) u1 u2 u3 u4 u5 → wX_recognise_31 post m (nI (st + (cf + cs + 1))) (nI rows) (nI cols) f_room f_entryCount f_open f_readCount (nI (i + 1)) (nI k) d1 d2 d3 d4 a_entry a_boxStart a_boxW a_boxH a_boxB a_posRow a_posCol a_grid a_readList u1 u2 u3 u4 u5 l1 l2 l3 l4 l5) :
    wX_recognise_31 post (m + (cf + cs + 1)) (nI st) (nI rows) (nI cols) f_room f_entryCount f_open f_readCount (nI (i + 1 - fo_L t i)) (nI (k + 3)) c1 c2 c3 c4 a_entry a_boxStart a_boxW a_boxH a_boxB a_posRow a_posCol a_grid a_readList s1 s2 s3 s4 s5 k1 k2 k3 k4 k5 := by
  obtain ⟨o1, o2, o3⟩ := fo_op wf hi hop
  have lf := fo_L_le wf (fo_f t i) (by omega)
  have ls := fo_L_le wf (i - 1) (by omega)
  have lp := fo_L_pos t (i - 1)
  have lq := fo_L_pos t (fo_f t i)
  have h14 := (wf i hi).1
  have ef : i + 1 - fo_L t i = fo_f t i + 1 - fo_L t (fo_f t i) := by omega
  rw [ef] at sn ⊢
  rw [show m + (cf + cs + 1) = (m + 1 + cs) + cf by omega]
  refine Cf (m + 1 + cs) st (k + 2) T2 L2 B2 R2 x2 _ _ _ _ _ _ _ _ _ _ _ _ _ _ r2 e2 b3 b4 t2 (by omega) (by omega) sn ?_
  intro d1 d2 d3 d4 u1 u2 u3 u4 u5 l1 l2 l3 l4 l5 te sn'
  have es : fo_f t i + 1 = i - 1 + 1 - fo_L t (i - 1) := by omega
  rw [es] at sn' ⊢
  refine Cs (m + 1) (st + cf) (k + 1) T1 L1 B1 R1 x1 _ _ _ _ _ _ _ _ _ _ _ _ _ _ r1 e1 b1 b2 (tk_eq_at te (by omega) t1) (by omega) (by omega) sn' ?_
  intro d1' d2' d3' d4' u1' u2' u3' u4' u5' l1' l2' l3' l4' l5' te' sn2
  have e3 : i - 1 + 1 = i := by omega
  rw [e3] at sn2 ⊢
  have te1 : tk_eq (k + 1) k1 k2 k3 k4 k5 l1 l2 l3 l4 l5 := fun j hj => te j (by omega)
  have te2 := tk_eq_t te1 te' (Nat.le_refl _)
  refine rc_step (by omega) (by omega) ?_
  intro post' hm
  refine rt_emit (by omega) (by omega) h14 (tk_eq_at te2 (by omega) t0) ?_
  refine hm ?_
  rw [show st + cf + cs + 1 = st + (cf + cs + 1) by omega]
  refine K _ _ _ _ _ _ _ _ _ _ _ _ _ _ ?_ (sn_s sn2 rfl rfl rfl rfl rfl)
  intro j hj
  exact te2 j (by omega)
theorem rc_br {i c0 : Nat} (h1 : rows ≤ 10) (h2 : cols ≤ 25) (gd : gd_ok rows cols G a_grid) (hG : ∀ r c, G r c < 1000) (wf : fo_WF t n) (hn : n ≤ 31) (hi : i < n) (C0 : rc_B post G rows cols t yy xx i 0 c0 f_room f_entryCount f_open f_readCount a_entry a_boxStart a_boxW a_boxH a_boxB a_posRow a_posCol a_grid a_readList) {p : Nat} (hp : p ≤ 1) : rc_B post G rows cols t yy xx i p (c0 + p) f_room f_entryCount f_open f_readCount a_entry a_boxStart a_boxW a_boxH a_boxB a_posRow a_posCol a_grid a_readList := by
  by_cases p0 : p = 0
  · subst p0; exact C0
  · have p1 : p = 1 := by omega
    subst p1
    intro m st k T L Bt R x c1 c2 c3 c4 s1 s2 s3 s4 s5 k1 k2 k3 k4 k5 reg ex hB hR tk hk hst sn K
    have zi := fo_sz wf i hi
    have rg := reg.1
    rw [show m + (c0 + 1) = m + c0 + 1 by omega]
    refine rc_step (by omega) (by omega) ?_
    intro post' hm
    refine rt_reg h1 h2 gd hG (by omega) tk reg (fo_ink_bp (by omega) (by omega) (fo_ink wf i hi)) (by omega) (by omega) hR hB ?_
    intro post2 hm2
    refine ex_brk h1 h2 gd hG wf hn hi (by omega) (by omega) reg.2.1 (by omega) ?_
    intro KK TT LL BB RR te ta
    refine hm2 (hm ?_)
    refine C0 m (st + 1) k _ _ _ _ _ _ _ _ _ _ _ _ _ _ _ _ _ _ _ (rg_in reg.2.1 (by omega) (by omega)) (by omega) (by omega) (by omega) ta hk (by omega) sn ?_
    intro d1 d2 d3 d4 u1 u2 u3 u4 u5 l1 l2 l3 l4 l5 te' sn'
    rw [show st + 1 + c0 = st + (c0 + 1) by omega]
    exact K _ _ _ _ _ _ _ _ _ _ _ _ _ _ (tk_eq_t te te' (Nat.le_refl _)) sn'
theorem rc_main (h1 : rows ≤ 10) (h2 : cols ≤ 25) (gd : gd_ok rows cols G a_grid) (hG : ∀ r c, G r c < 1000) (wf : fo_WF t n) (hn : n ≤ 31) (pl : fo_Pl t yy xx 0 n) : ∀ i, i < n → ∃ cost, cost + 3 ≤ 4 * fo_L t i ∧ rc_B post G rows cols t yy xx i 0 cost f_room f_entryCount f_open f_readCount a_entry a_boxStart a_boxW a_boxH a_boxB a_posRow a_posCol a_grid a_readList := by
  refine fo_ind wf ?_ ?_
  · intro i hi hd
    refine ⟨1, by rw [fo_L_d hd]; omega, ?_⟩
    intro m st k T L Bt R x c1 c2 c3 c4 s1 s2 s3 s4 s5 k1 k2 k3 k4 k5 reg ex hB hR tk hk hst sn K
    have zi := fo_sz wf i hi
    have rg := reg.1
    rw [fo_L_d hd, Nat.add_sub_cancel] at sn ⊢
    refine rc_step (by omega) (by omega) ?_
    intro post' hm
    refine rt_reg h1 h2 gd hG (by omega) tk reg (fo_ink_bp (by omega) (by omega) (fo_ink wf i hi)) (by omega) (by omega) hR hB ?_
    intro post2 hm2
    refine ex_digit h1 h2 gd hG wf hn hi (by omega) hd (by omega) reg.2.1 (by omega) ?_
    refine hm2 (hm ?_)
    refine K _ _ _ _ _ _ _ _ _ _ _ _ _ _ (fun j hj => ⟨rfl, rfl, rfl, rfl, rfl⟩) (sn_s sn rfl rfl ?_ rfl ?_)
    · exact congrArg nI (by omega)
    · exact congrArg nI (by omega)
  · intro i hi h10 h14 o1 o2 o3 ⟨cf, cf1, Cf⟩ ⟨cs, cs1, Cs⟩
    have pa := fo_pA_le t i
    have pb := fo_pB_le t i
    obtain ⟨p1, p2, p3, p4⟩ := pl i (by omega) hi h10
    have zi := fo_sz wf i hi
    have zf := fo_sz wf (fo_f t i) (by omega)
    have zs := fo_sz wf (i - 1) (by omega)
    have lf := fo_L_le wf (fo_f t i) (by omega)
    have lp := fo_L_pos t (i - 1)
    have lq := fo_L_pos t (fo_f t i)
    obtain ⟨gA1, gA2, gA3, gB1, gB2, gB3, gw1, gw2, _⟩ := fo_geo wf hi h10
    by_cases c13 : t i = 13
    · obtain ⟨q1, q2, q3, q4, q5⟩ := fo_D_13 c13 o1
      obtain ⟨g1, g2, g3, g4⟩ := fo_g13 c13
      clear q3 q5 g2 g4
      refine ⟨cf + cs + 1 + 1, by omega, ?_⟩
      intro m st k T L Bt R x c1 c2 c3 c4 s1 s2 s3 s4 s5 k1 k2 k3 k4 k5 reg ex hB hR tk hk hst sn K
      have rg := reg.1
      rw [Nat.add_zero] at ex
      subst ex
      rw [show m + (cf + cs + 1 + 1) = m + (cf + cs + 1) + 1 by omega]
      refine rc_step (by omega) (by omega) ?_
      intro post' hm
      refine rt_reg h1 h2 gd hG (by omega) tk reg (fo_ink_bp (by omega) (by omega) (fo_ink wf i hi)) (by omega) (by omega) hR hB ?_
      intro post2 hm2
      refine ex_frac h1 h2 gd hG wf hn hi (by omega) c13 (by omega) reg.2.1 (by omega) ?_
      intro KK TT LL BB RR te ta tb tc
      refine hm2 (hm ?_)
      have rN := rg_N wf hi c13 reg.2.1
      have rD := rg_D wf hi c13 reg.2.1
      rw [show yy i = yy (fo_f t i) by omega] at rN
      rw [show yy i + fo_H t (fo_f t i) + 1 = yy (i - 1) by omega] at rD tb
      refine rc_tail h1 h2 gd hG wf hn hi h10 Cf Cs m (st + 1) k _ _ _ _ _ _ _ _ _ _ _ _ _ _ _ _ _ _ _ _ _ _ _ _ rD (by omega) (by omega) (by omega) rN (by omega) (by omega) (by omega) ta tb (by rw [show yy i = yy (fo_f t i) by omega] at tc; exact tc) hk (by omega) sn ?_
      intro d1 d2 d3 d4 u1 u2 u3 u4 u5 l1 l2 l3 l4 l5 te' sn'
      rw [show st + 1 + (cf + cs + 1) = st + (cf + cs + 1 + 1) by omega]
      exact K _ _ _ _ _ _ _ _ _ _ _ _ _ _ (tk_eq_t te te' (Nat.le_refl _)) sn'
    · by_cases c14 : t i = 14
      · obtain ⟨q2, q3, q4, q5⟩ := fo_D_14 c14 o1
        obtain ⟨g1, g2, g3, g4⟩ := fo_g14 c14
        refine ⟨cf + cs + 1 + 1, by omega, ?_⟩
        intro m st k T L Bt R x c1 c2 c3 c4 s1 s2 s3 s4 s5 k1 k2 k3 k4 k5 reg ex hB hR tk hk hst sn K
        have rg := reg.1
        rw [Nat.add_zero] at ex
        subst ex
        rw [show m + (cf + cs + 1 + 1) = m + (cf + cs + 1) + 1 by omega]
        refine rc_step (by omega) (by omega) ?_
        intro post' hm
        refine rt_reg h1 h2 gd hG (by omega) tk reg (fo_ink_bp (by omega) (by omega) (fo_ink wf i hi)) (by omega) (by omega) hR hB ?_
        intro post2 hm2
        have FIN : ∀ KK TT LL BB RR, tk_eq k k1 k2 k3 k4 k5 KK TT LL BB RR → tk_at KK TT LL BB RR k (nI (t i)) (yy i) (xx i) (yy i + fo_H t i - 1) (xx i + fo_W t i - 1) → tk_at KK TT LL BB RR (k + 1) (-1) (yy i) (xx i + (fo_W t (fo_f t i) + 2 * fo_pA t i)) (yy i + fo_H t (i - 1) - 1) (xx i + fo_W t i - 1) → tk_at KK TT LL BB RR (k + 2) (-1) (yy i + fo_H t (i - 1)) (xx i + fo_pA t i) (yy i + fo_H t i - 1) (xx i + fo_pA t i + fo_W t (fo_f t i) - 1) →
            post2 (nI rows, nI cols, f_room, f_entryCount, f_open, f_readCount, nI (i + 1 - fo_L t i), nI (k + 3), nI (yy i), nI (xx i), nI (yy i + fo_H t i - 1), nI (xx i + (fo_W t i + 2 * 0) - 1), a_entry, a_boxStart, a_boxW, a_boxH, a_boxB, a_posRow, a_posCol, a_grid, a_readList, s1, s2, s3, s4, s5, KK, TT, LL, BB, RR) := by
          intro KK TT LL BB RR te ta tb tc
          refine hm2 (hm ?_)
          have rE := rg_E wf hi c14 reg.2.1
          have rP := rg_P wf hi c14 reg.2.1
          rw [show yy i = yy (i - 1) by omega] at rE tb
          rw [show yy i + fo_H t (i - 1) = yy (fo_f t i) by omega] at rP tc
          refine rc_tail h1 h2 gd hG wf hn hi h10 Cf Cs m (st + 1) k _ _ _ _ _ _ _ _ _ _ _ _ _ _ _ _ _ _ _ _ _ _ _ _ rE (by omega) (by omega) (by omega) rP (by omega) (by omega) (by omega) ta tb tc hk (by omega) sn ?_
          intro d1 d2 d3 d4 u1 u2 u3 u4 u5 l1 l2 l3 l4 l5 te' sn'
          rw [show st + 1 + (cf + cs + 1) = st + (cf + cs + 1 + 1) by omega]
          exact K _ _ _ _ _ _ _ _ _ _ _ _ _ _ (tk_eq_t te te' (Nat.le_refl _)) sn'
        by_cases pA0 : fo_pA t i = 0
        · exact ex_powd h1 h2 gd hG wf hn hi (by omega) c14 pA0 (by omega) reg.2.1 (by omega) FIN
        · exact ex_powb h1 h2 gd hG wf hn hi (by omega) c14 (by omega) (by omega) reg.2.1 (by omega) FIN
      · have h12 : t i ≤ 12 := by omega
        obtain ⟨q3, q4, q5⟩ := fo_D_c h10 h12 o1
        obtain ⟨g1, g2, g3, g4⟩ := fo_gc (t := t) (i := i) h12
        clear q4 q5
        have Cf' := rc_br h1 h2 gd hG wf hn (by omega) Cf pa
        have Cs' := rc_br h1 h2 gd hG wf hn (by omega) Cs pb
        refine ⟨(cf + fo_pA t i) + (cs + fo_pB t i) + 1 + 1, by omega, ?_⟩
        intro m st k T L Bt R x c1 c2 c3 c4 s1 s2 s3 s4 s5 k1 k2 k3 k4 k5 reg ex hB hR tk hk hst sn K
        have rg := reg.1
        rw [Nat.add_zero] at ex
        subst ex
        rw [show m + ((cf + fo_pA t i) + (cs + fo_pB t i) + 1 + 1) = m + ((cf + fo_pA t i) + (cs + fo_pB t i) + 1) + 1 by omega]
        refine rc_step (by omega) (by omega) ?_
        intro post' hm
        refine rt_reg h1 h2 gd hG (by omega) tk reg (fo_ink_bp (by omega) (by omega) (fo_ink wf i hi)) (by omega) (by omega) hR hB ?_
        intro post2 hm2
        refine ex_chain h1 h2 gd hG wf hn hi (by omega) h10 h12 (by omega) reg.2.1 (by omega) ?_
        intro KK TT LL BB RR te ta tb tc
        refine hm2 (hm ?_)
        have rA := rg_A wf hi h10 h12 reg.2.1
        have rB := rg_B wf hi h10 h12 reg.2.1
        rw [← p1] at rA
        rw [← p3] at rB
        refine rc_tail h1 h2 gd hG wf hn hi h10 Cf' Cs' m (st + 1) k _ _ _ _ _ _ _ _ _ _ _ _ _ _ _ _ _ _ _ _ _ _ _ _ rB (by omega) (by omega) (by omega) rA (by omega) (by omega) (by omega) ta tb tc hk (by omega) sn ?_
        intro d1 d2 d3 d4 u1 u2 u3 u4 u5 l1 l2 l3 l4 l5 te' sn'
        rw [show st + 1 + ((cf + fo_pA t i) + (cs + fo_pB t i) + 1) = st + ((cf + fo_pA t i) + (cs + fo_pB t i) + 1 + 1) by omega]
        exact K _ _ _ _ _ _ _ _ _ _ _ _ _ _ (tk_eq_t te te' (Nat.le_refl _)) sn'
end
end
section
/-! the component: recognise as a whole; the innermost box; a subformula's start; lifting -/
theorem fo_sg_lt (k : Nat) : fo_sg k < 1000 := by
  unfold fo_sg
  by_cases a : k = 10
  · rw [if_pos a]; omega
  · rw [if_neg a]; by_cases b : k = 11
    · rw [if_pos b]; omega
    · rw [if_neg b]; omega
theorem fo_own_lt (t : Nat → Nat) (i r c : Nat) : fo_own t i r c < 1000 := by
  have s := fo_sg_lt (t i)
  unfold fo_own
  split
  · split <;> omega
  · split
    · exact s
    · split
      · omega
      · split
        · omega
        · split
          · omega
          · split <;> omega
theorem fo_pic_lt {t : Nat → Nat} {n : Nat} (wf : fo_WF t n) : ∀ i, i < n → ∀ r c, fo_pic t i r c < 1000 := by
  refine fo_ind wf ?_ ?_
  · intro i hi d r c; rw [fo_pic_d d]; omega
  · intro i hi h1 h2 h0 h4 h5 a b r c
    rw [fo_pic_o h1 h0]
    split
    · exact a _ _
    · split
      · exact b _ _
      · exact fo_own_lt _ _ _ _
theorem fo_pg_lt {t : Nat → Nat} {n top left : Nat} (wf : fo_WF t n) (h0 : 0 < n) (r c : Nat) : fo_pg t n top left r c < 1000 := by
  unfold fo_pg
  split
  · exact fo_pic_lt wf (n - 1) (by omega) _ _
  · omega
section
variable {f_rows f_cols f_room f_entryCount f_open f_readCount f_seenCount f_taskCount f_curTop f_curLeft f_curBottom f_curRight : Int32} {a_entry a_boxStart a_boxW a_boxH a_boxB a_posRow a_posCol a_grid a_readList a_seenToken a_seenTop a_seenLeft a_seenBottom a_seenRight a_taskKind a_taskTop a_taskLeft a_taskBottom a_taskRight : Nat → Int32}
variable {rows cols : Nat} {t yy xx : Nat → Nat} {n top left : Nat}
theorem xw_recognise {post : SX → Prop} (h1 : rows ≤ 10) (h2 : cols ≤ 25) (wf : fo_WF t n) (hn : n ≤ 31) (h0 : 0 < n) (hL : fo_L t (n - 1) = n) (pl : fo_Pl t yy xx 0 n) (hy : yy (n - 1) = top) (hx : xx (n - 1) = left) (fr : top + fo_H t (n - 1) ≤ rows) (fc : left + fo_W t (n - 1) ≤ cols) (gd : gd_ok rows cols (fo_pg t n top left) a_grid)
    (hp : ∀ (d1 d2 d3 d4 : Int32) (u1 u2 u3 u4 u5 l1 l2 l3 l4 l5 : Nat → Int32), sn_ok t yy xx n u1 u2 u3 u4 u5 → post (nI rows, nI cols, f_room, f_entryCount, f_open, f_readCount, nI n, nI 0, d1, d2, d3, d4, a_entry, a_boxStart, a_boxW, a_boxH, a_boxB, a_posRow, a_posCol, a_grid, a_readList, u1, u2, u3, u4, u5, l1, l2, l3, l4, l5)) : wpX_recognise post (nI rows, nI cols, f_room, f_entryCount, f_open, f_readCount, f_seenCount, f_taskCount, f_curTop, f_curLeft, f_curBottom, f_curRight, a_entry, a_boxStart, a_boxW, a_boxH, a_boxB, a_posRow, a_posCol, a_grid, a_readList, a_seenToken, a_seenTop, a_seenLeft, a_seenBottom, a_seenRight, a_taskKind, a_taskTop, a_taskLeft, a_taskBottom, a_taskRight) := by
  have z := fo_sz wf (n - 1) (by omega)
  unfold wpX_recognise
  refine xw_pushTask (k := 0) (by omega) ?_
  obtain ⟨cost, c1, C⟩ := rc_main (post := post) (f_room := f_room) (f_entryCount := f_entryCount) (f_open := f_open) (f_readCount := f_readCount) (a_entry := a_entry) (a_boxStart := a_boxStart) (a_boxW := a_boxW) (a_boxH := a_boxH) (a_boxB := a_boxB) (a_posRow := a_posRow) (a_posCol := a_posCol) (a_readList := a_readList) h1 h2 gd (fo_pg_lt wf h0) wf hn pl (n - 1) (by omega)
  have reg : fo_Reg (fo_pg t n top left) 0 0 (rows - 1) (cols - 1) (yy (n - 1)) (xx (n - 1)) (fo_H t (n - 1)) (fo_W t (n - 1) + 2 * 0) (fo_bp t (n - 1) 0) := by
    refine ⟨⟨by omega, by omega, by omega, by omega⟩, ?_, ?_⟩
    · intro r c hr hc
      rw [fo_bp0, hy, hx]
      unfold fo_pg
      rw [if_pos (by omega), show top + r - top = r by omega, show left + c - left = c by omega]
    · intro r c a b d e f
      unfold fo_pg
      rw [if_neg (by omega)]
  obtain ⟨_, tk⟩ := tk_1 (K := a_taskKind) (T := a_taskTop) (L := a_taskLeft) (B := a_taskBottom) (R := a_taskRight) (k := 0) (v0 := -1) (a0 := 0) (b0 := 0) (c0 := rows - 1) (d0 := cols - 1)
  have W := C 1 0 0 0 0 (rows - 1) (cols - 1) (xx (n - 1)) f_curTop f_curLeft f_curBottom f_curRight a_seenToken a_seenTop a_seenLeft a_seenBottom a_seenRight _ _ _ _ _ reg rfl (by omega) (by omega) tk (by omega) (by omega) (fun j hj => by omega) ?_
  · refine ⟨1 + cost, ?_⟩
    rw [show n - 1 + 1 - fo_L t (n - 1) = 0 by omega] at W
    rw [xw_pr (i := rows) (by omega), xw_pr (i := cols) (by omega)]
    exact W
  · intro d1 d2 d3 d4 u1 u2 u3 u4 u5 l1 l2 l3 l4 l5 te sn
    rw [show n - 1 + 1 = n by omega] at sn ⊢
    have q := hp d1 d2 d3 d4 u1 u2 u3 u4 u5 l1 l2 l3 l4 l5 sn
    exact br_c (fun _ => q) (fun _ => br_t (by decide) q)
theorem xw_recog0 {post : SX → Prop} (h1 : rows ≤ 10) (h2 : cols ≤ 25) (h1' : 0 < rows) (h2' : 0 < cols) (hb : ∀ r c, r < rows → c < cols → a_grid (r * cols + c) = 32)
    (hp : ∀ (d1 d2 d3 d4 : Int32) (u1 u2 u3 u4 u5 l1 l2 l3 l4 l5 : Nat → Int32), post (nI rows, nI cols, f_room, f_entryCount, f_open, f_readCount, nI 0, nI 0, d1, d2, d3, d4, a_entry, a_boxStart, a_boxW, a_boxH, a_boxB, a_posRow, a_posCol, a_grid, a_readList, u1, u2, u3, u4, u5, l1, l2, l3, l4, l5)) : wpX_recognise post (nI rows, nI cols, f_room, f_entryCount, f_open, f_readCount, f_seenCount, f_taskCount, f_curTop, f_curLeft, f_curBottom, f_curRight, a_entry, a_boxStart, a_boxW, a_boxH, a_boxB, a_posRow, a_posCol, a_grid, a_readList, a_seenToken, a_seenTop, a_seenLeft, a_seenBottom, a_seenRight, a_taskKind, a_taskTop, a_taskLeft, a_taskBottom, a_taskRight) := by
  unfold wpX_recognise
  refine xw_pushTask (k := 0) (by omega) ?_
  refine ⟨2, ?_⟩
  rw [xw_pr (i := rows) h1', xw_pr (i := cols) h2']
  obtain ⟨_, tk⟩ := tk_1 (K := a_taskKind) (T := a_taskTop) (L := a_taskLeft) (B := a_taskBottom) (R := a_taskRight) (k := 0) (v0 := -1) (a0 := 0) (b0 := 0) (c0 := rows - 1) (d0 := cols - 1)
  refine rc_step (m := 1) (st := 0) (k := 0) (by omega) (by omega) ?_
  intro post' hm
  refine rt_blank h1 h2 hb (by omega) tk (by omega) (by omega) (by omega) (by omega) ?_
  refine hm ?_
  exact br_f (by decide) (br_t (by decide) (hp _ _ _ _ _ _ _ _ _ _ _ _ _ _))
theorem xw_inn_l {post : Int32 → Prop} {r c : Nat} (hn : n ≤ 31) (hr : r < 1000) (hc : c < 1000) (hb : ∀ j, j < n → yy j + fo_H t j ≤ 1000 ∧ xx j + fo_W t j ≤ 1000 ∧ 1 ≤ fo_H t j ∧ 1 ≤ fo_W t j) (sn : sn_ok t yy xx n a_seenToken a_seenTop a_seenLeft a_seenBottom a_seenRight)
    (hno : (∀ j, j < n → ¬ fo_at t yy xx j r c) → post (-1)) (hso : ∀ k, k < n → fo_at t yy xx k r c → (∀ j, j < k → ¬ fo_at t yy xx j r c) → post (nI k)) :
    ∀ d i, i + d = n → (∀ j, j < i → ¬ fo_at t yy xx j r c) → wX_innermost_2 post (nI r) (nI c) f_rows f_cols f_room f_entryCount f_open f_readCount (nI n) f_taskCount f_curTop f_curLeft f_curBottom f_curRight a_entry a_boxStart a_boxW a_boxH a_boxB a_posRow a_posCol a_grid a_readList a_seenToken a_seenTop a_seenLeft a_seenBottom a_seenRight a_taskKind a_taskTop a_taskLeft a_taskBottom a_taskRight (d + 1) (nI i) := by
  intro d
  induction d with
  | zero =>
    intro i hi h
    have e : i = n := by omega
    subst e
    exact br_t (nI_le (Nat.le_refl _) (by omega)) (hno h)
  | succ d ih =>
    intro i hi h
    have ni : vp_in (nI i) 31 := pk_in i 31 (by omega)
    have ci : (nI i).toNatClampNeg = i := nI_clamp (by omega)
    obtain ⟨e1, e2, e3, e4, e5⟩ := sn i (by omega)
    obtain ⟨b1, b2, b3, b4⟩ := hb i (by omega)
    have N : ¬ fo_at t yy xx i r c → wX_innermost_2 post (nI r) (nI c) f_rows f_cols f_room f_entryCount f_open f_readCount (nI n) f_taskCount f_curTop f_curLeft f_curBottom f_curRight a_entry a_boxStart a_boxW a_boxH a_boxB a_posRow a_posCol a_grid a_readList a_seenToken a_seenTop a_seenLeft a_seenBottom a_seenRight a_taskKind a_taskTop a_taskLeft a_taskBottom a_taskRight (d + 1) (nI (i + 1)) := by
      intro z
      refine ih (i + 1) (by omega) fun j hj => ?_
      by_cases e : j = i
      · rw [e]; exact z
      · exact h j (by omega)
    have N0 : ¬ fo_at t yy xx i r c → wX_innermost_34 post (wX_innermost_2 post (nI r) (nI c) f_rows f_cols f_room f_entryCount f_open f_readCount (nI n) f_taskCount f_curTop f_curLeft f_curBottom f_curRight a_entry a_boxStart a_boxW a_boxH a_boxB a_posRow a_posCol a_grid a_readList a_seenToken a_seenTop a_seenLeft a_seenBottom a_seenRight a_taskKind a_taskTop a_taskLeft a_taskBottom a_taskRight (d + 1)) (nI r) (nI c) (nI i) f_rows f_cols f_room f_entryCount f_open f_readCount (nI n) f_taskCount f_curTop f_curLeft f_curBottom f_curRight a_entry a_boxStart a_boxW a_boxH a_boxB a_posRow a_posCol a_grid a_readList a_seenToken a_seenTop a_seenLeft a_seenBottom a_seenRight a_taskKind a_taskTop a_taskLeft a_taskBottom a_taskRight := fun z => br_t rfl (nm_r (nI_1 i) (N z))
    refine br_f (nI_ge (by omega) (by omega)) ⟨ni, ?_⟩
    rw [ci, e2, e4]
    refine pk_lt r (yy i) (fun z => N0 (by omega)) (fun z1 => ⟨ni, pk_lt (yy i + fo_H t i - 1) r (fun z => N0 (by omega)) (fun z2 => ?_)⟩)
    refine br_f (by decide) ⟨ni, ?_⟩
    rw [ci, e3, e5]
    refine pk_lt c (xx i) (fun z => nm_r (nI_1 i) (N (by omega))) (fun z3 => ⟨ni, pk_lt (xx i + fo_W t i - 1) c (fun z => nm_r (nI_1 i) (N (by omega))) (fun z4 => ?_)⟩)
    exact hso i (by omega) (by omega) h
theorem xw_innermost {post : Int32 → Prop} {r c : Nat} (hn : n ≤ 31) (hr : r < 1000) (hc : c < 1000) (hb : ∀ j, j < n → yy j + fo_H t j ≤ 1000 ∧ xx j + fo_W t j ≤ 1000 ∧ 1 ≤ fo_H t j ∧ 1 ≤ fo_W t j) (sn : sn_ok t yy xx n a_seenToken a_seenTop a_seenLeft a_seenBottom a_seenRight)
    (hno : (∀ j, j < n → ¬ fo_at t yy xx j r c) → post (-1)) (hso : ∀ k, k < n → fo_at t yy xx k r c → (∀ j, j < k → ¬ fo_at t yy xx j r c) → post (nI k)) : wpX_innermost post (f_rows, f_cols, f_room, f_entryCount, f_open, f_readCount, nI n, f_taskCount, f_curTop, f_curLeft, f_curBottom, f_curRight, a_entry, a_boxStart, a_boxW, a_boxH, a_boxB, a_posRow, a_posCol, a_grid, a_readList, a_seenToken, a_seenTop, a_seenLeft, a_seenBottom, a_seenRight, a_taskKind, a_taskTop, a_taskLeft, a_taskBottom, a_taskRight) (nI r) (nI c) :=
  ⟨n + 1, xw_inn_l hn hr hc hb sn hno hso n 0 (by omega) (fun j hj => absurd hj (by omega))⟩
theorem xw_ss_r {post : Int32 → Prop} (wf : fo_WF t n) (hn : n ≤ 31) (he : ∀ j, j < n → a_seenToken j = nI (t j)) : ∀ i, i < n → ∀ f m, m + fo_L t i < 1000 → (m = 0 → post (nI (i + 1 - fo_L t i))) → (m ≠ 0 → wX_seenStart_4 post f_rows f_cols f_room f_entryCount f_open f_readCount f_seenCount f_taskCount f_curTop f_curLeft f_curBottom f_curRight a_entry a_boxStart a_boxW a_boxH a_boxB a_posRow a_posCol a_grid a_readList a_seenToken a_seenTop a_seenLeft a_seenBottom a_seenRight a_taskKind a_taskTop a_taskLeft a_taskBottom a_taskRight f (nI m) (nI (i + 1 - fo_L t i) + (-1))) → wX_seenStart_4 post f_rows f_cols f_room f_entryCount f_open f_readCount f_seenCount f_taskCount f_curTop f_curLeft f_curBottom f_curRight a_entry a_boxStart a_boxW a_boxH a_boxB a_posRow a_posCol a_grid a_readList a_seenToken a_seenTop a_seenLeft a_seenBottom a_seenRight a_taskKind a_taskTop a_taskLeft a_taskBottom a_taskRight (f + fo_L t i) (nI (m + 1)) (nI (i + 1) + (-1)) := by
  refine fo_ind wf ?_ ?_
  · intro i hi d f m hm k0 k1
    rw [fo_L_d d] at hm k0 k1 ⊢
    rw [pk_m1]
    refine br_f (nI_pos (by omega)) ⟨pk_in i 31 (by omega), ?_⟩
    rw [nI_clamp (by omega), he i hi]
    refine br_f (nI_ge (b := 10) (by omega) (by omega)) ?_
    refine nm_r (e' := nI m) (pk_m1 m) ?_
    exact pk_eq m 0 (fun z => k0 z) (fun z => nm_e (k1 z))
  · intro i hi h10 h14 o1 o2 o3 a b f m hm k0 k1
    have lf := fo_L_le wf (fo_f t i) (by omega)
    rw [pk_m1, o3, show f + (1 + fo_L t (i - 1) + fo_L t (fo_f t i)) = f + fo_L t (fo_f t i) + fo_L t (i - 1) + 1 by omega]
    refine br_f (nI_pos (by omega)) ⟨pk_in i 31 (by omega), ?_⟩
    rw [nI_clamp (by omega), he i hi]
    refine br_t (nI_le (a := 10) (by omega) (by omega)) ?_
    refine nm_r (e' := nI (m + 1 + 1)) (nI_1 (m + 1)) ?_
    refine br_f (nI_ne0 (by omega) (by omega)) (nm_e ?_)
    have b' := b (f + fo_L t (fo_f t i)) (m + 1) (by omega) (fun z => absurd z (by omega))
    rw [show i - 1 + 1 = i by omega, show i - fo_L t (i - 1) = fo_f t i + 1 by omega] at b'
    refine b' fun _ => ?_
    rw [show i + 1 - fo_L t i = fo_f t i + 1 - fo_L t (fo_f t i) by omega] at k0 k1
    exact a f m (by omega) k0 k1
theorem xw_seenStart {post : Int32 → Prop} {i : Nat} (wf : fo_WF t n) (hn : n ≤ 31) (he : ∀ j, j < n → a_seenToken j = nI (t j)) (hi : i < n) (hp : post (nI (i + 1 - fo_L t i))) : wpX_seenStart post (f_rows, f_cols, f_room, f_entryCount, f_open, f_readCount, f_seenCount, f_taskCount, f_curTop, f_curLeft, f_curBottom, f_curRight, a_entry, a_boxStart, a_boxW, a_boxH, a_boxB, a_posRow, a_posCol, a_grid, a_readList, a_seenToken, a_seenTop, a_seenLeft, a_seenBottom, a_seenRight, a_taskKind, a_taskTop, a_taskLeft, a_taskBottom, a_taskRight) (nI i) := by
  refine ⟨0 + fo_L t i, ?_⟩
  have := xw_ss_r (post := post) (f_rows := f_rows) (f_cols := f_cols) (f_room := f_room) (f_entryCount := f_entryCount) (f_open := f_open) (f_readCount := f_readCount) (f_seenCount := f_seenCount) (f_taskCount := f_taskCount) (f_curTop := f_curTop) (f_curLeft := f_curLeft) (f_curBottom := f_curBottom) (f_curRight := f_curRight) (a_entry := a_entry) (a_boxStart := a_boxStart) (a_boxW := a_boxW) (a_boxH := a_boxH) (a_boxB := a_boxB) (a_posRow := a_posRow) (a_posCol := a_posCol) (a_grid := a_grid) (a_readList := a_readList) (a_seenTop := a_seenTop) (a_seenLeft := a_seenLeft) (a_seenBottom := a_seenBottom) (a_seenRight := a_seenRight) (a_taskKind := a_taskKind) (a_taskTop := a_taskTop) (a_taskLeft := a_taskLeft) (a_taskBottom := a_taskBottom) (a_taskRight := a_taskRight) wf hn he i hi 0 0 (by have := fo_L_le wf i hi; omega) (fun _ => hp) (fun z => absurd rfl z)
  rw [pk_m1] at this
  exact this
end
end
section
/-! one character overwritten: the picture of the formula with that token changed -/
section
variable {p p' yy xx : Nat → Nat} {n k r c i : Nat}
theorem ov_o (wf : fo_WF p n) (hcl : ∀ j, j < n → fo_cl (p j) (p' j)) (hi : i < n) (h10 : 10 ≤ p i) (a b : Nat) : fo_pic p' i a b =
    if fo_in (fo_fy p i) (fo_fx p i) (fo_H p (fo_f p i)) (fo_W p (fo_f p i)) a b then fo_pic p' (fo_f p i) (a - fo_fy p i) (b - fo_fx p i)
    else if fo_in (fo_sy p i) (fo_sx p i) (fo_H p (i - 1)) (fo_W p (i - 1)) a b then fo_pic p' (i - 1) (a - fo_sy p i) (b - fo_sx p i)
    else fo_own p' i a b := by
  obtain ⟨o1, o2, o3⟩ := fo_op wf hi h10
  have d := fo_cl_d (hcl i hi)
  obtain ⟨g1, g2, g3, g4⟩ := fo_cl_g wf hcl hi h10
  obtain ⟨sw, sh, sb⟩ := fo_cl_D wf hcl (i - 1) (by omega)
  obtain ⟨fw, fh, fb⟩ := fo_cl_D wf hcl (fo_f p i) (by omega)
  have ef := fo_cl_f hcl hi
  rw [fo_pic_o (t := p') (i := i) (by omega) o1, ← ef, ← g1, ← g2, ← g3, ← g4, ← sw, ← sh, ← fw, ← fh]
theorem ov_own (wf : fo_WF p n) (hcl : ∀ j, j < n → fo_cl (p j) (p' j)) (hi : i < n) (h10 : 10 ≤ p i) (h : p i = p' i) (a b : Nat) : fo_own p' i a b = fo_own p i a b := by
  obtain ⟨o1, o2, o3⟩ := fo_op wf hi h10
  obtain ⟨g1, g2, g3, g4⟩ := fo_cl_g wf hcl hi h10
  obtain ⟨ea, eb⟩ := fo_cl_p hcl hi
  obtain ⟨dw, dh, db⟩ := fo_cl_D wf hcl i hi
  obtain ⟨sw, sh, sb⟩ := fo_cl_D wf hcl (i - 1) (by omega)
  obtain ⟨fw, fh, fb⟩ := fo_cl_D wf hcl (fo_f p i) (by omega)
  have ef := fo_cl_f hcl hi
  unfold fo_own
  rw [← ef, ← ea, ← eb, ← g1, ← g2, ← g3, ← g4, ← db, ← sw, ← sh, ← fw, ← fh, ← h]
theorem ov_sgn (wf : fo_WF p n) (hcl : ∀ j, j < n → fo_cl (p j) (p' j)) (hi : i < n) (h : p i = 10 ∨ p i = 11) (h' : p' i = 10 ∨ p' i = 11) (a b : Nat) : fo_own p' i a b = if a = fo_B p i ∧ b + fo_pB p i + 1 = fo_sx p i then fo_sg (p' i) else fo_own p i a b := by
  have h10 : 10 ≤ p i := by omega
  obtain ⟨o1, o2, o3⟩ := fo_op wf hi h10
  obtain ⟨g1, g2, g3, g4⟩ := fo_cl_g wf hcl hi h10
  obtain ⟨ea, eb⟩ := fo_cl_p hcl hi
  obtain ⟨dw, dh, db⟩ := fo_cl_D wf hcl i hi
  obtain ⟨sw, sh, sb⟩ := fo_cl_D wf hcl (i - 1) (by omega)
  obtain ⟨fw, fh, fb⟩ := fo_cl_D wf hcl (fo_f p i) (by omega)
  have ef := fo_cl_f hcl hi
  unfold fo_own
  rw [← ef, ← ea, ← eb, ← g1, ← g2, ← g3, ← g4, ← db, ← sw, ← sh, ← fw, ← fh]
  rw [if_neg (c := p' i = 13) (by omega), if_neg (c := p i = 13) (by omega)]
  by_cases z : a = fo_B p i ∧ b + fo_pB p i + 1 = fo_sx p i
  · rw [if_pos (c := p' i ≠ 14 ∧ _) (by omega), if_pos z]
  · rw [if_neg (c := p' i ≠ 14 ∧ _) (by omega), if_neg z, if_neg (c := p i ≠ 14 ∧ _) (by omega)]
/-- the cell is the digit of k, or the sign of k -/
def ov_cell (p yy xx : Nat → Nat) (k r c : Nat) (v : Nat) : Prop := fo_Own p yy xx k r c ∧ ((p k < 10 ∧ v < 10) ∨ ((p k = 10 ∨ p k = 11) ∧ (v = 10 ∨ v = 11) ∧ r = yy k + fo_B p k ∧ c + fo_pB p k + 1 = xx k + fo_sx p k))
def ov_code (v : Nat) : Nat := if v < 10 then 48 + v else fo_sg v
theorem ov_pic {v : Nat} (wf : fo_WF p n) (hk : k < n) (hp' : ∀ j, p' j = if j = k then v else p j) (pl : fo_Pl p yy xx 0 n) (hc : ov_cell p yy xx k r c v) : ∀ i, i < n → k ≤ i → i < k + fo_L p i → ∀ a b, a < fo_H p i → b < fo_W p i → fo_pic p' i a b = if a + yy i = r ∧ b + xx i = c then ov_code v else fo_pic p i a b := by
  obtain ⟨⟨own1, own2⟩, kind⟩ := hc
  have hcl : ∀ j, j < n → fo_cl (p j) (p' j) := by
    intro j hj
    rw [hp' j]
    by_cases e : j = k
    · rw [if_pos e, e]
      rcases kind with q | q
      · exact Or.inr (Or.inl q)
      · exact Or.inr (Or.inr ⟨q.1, q.2.1⟩)
    · rw [if_neg e]; exact Or.inl rfl
  have pk : p' k = v := by rw [hp' k, if_pos rfl]
  have pn : ∀ j, j ≠ k → p j = p' j := fun j hj => by rw [hp' j, if_neg hj]
  refine fo_ind wf ?_ ?_
  · intro i hi d k1 k2 a b ha hb
    rw [fo_L_d d] at k2
    have e : k = i := by omega
    subst e
    obtain ⟨d1, d2, d3⟩ := fo_D_d d
    rcases kind with ⟨q1, q2⟩ | q
    · rw [if_pos (by omega), fo_pic_d (by omega), pk]
      unfold ov_code
      rw [if_pos q2]
    · omega
  · intro i hi h10 h14 o1 o2 o3 ia ib k1 k2 a b ha hb
    obtain ⟨p1, p2, p3, p4⟩ := pl i (by omega) hi h10
    have lp := fo_L_pos p (i - 1)
    have lf := fo_L_le wf (fo_f p i) (by omega)
    rw [ov_o wf hcl hi h10, fo_pic_o h10 o1]
    by_cases e : k = i
    · subst e
      obtain ⟨w1, w2⟩ := own2 h10
      rcases kind with q | ⟨q1, q2, q3, q4⟩
      · omega
      · have fF : fo_pic p' (fo_f p k) = fo_pic p (fo_f p k) := (fo_cl_pic wf hcl (fo_f p k) (by omega) (fun j j1 j2 => pn j (by omega))).symm
        have fS : fo_pic p' (k - 1) = fo_pic p (k - 1) := (fo_cl_pic wf hcl (k - 1) (by omega) (fun j j1 j2 => pn j (by omega))).symm
        by_cases z : a + yy k = r ∧ b + xx k = c
        · rw [if_pos z, if_neg (by omega), if_neg (by omega), ov_sgn wf hcl hi q1 (by omega), if_pos (by omega), pk]
          unfold ov_code
          rw [if_neg (by omega)]
        · rw [if_neg z, fF, fS, ov_sgn wf hcl hi q1 (by omega), if_neg (c := a = fo_B p k ∧ _) (by omega)]
    · have eo : fo_own p' i a b = fo_own p i a b := ov_own wf hcl hi h10 (pn i (fun z => e z.symm)) a b
      rw [eo]
      by_cases kf : k ≤ fo_f p i
      · have pf := fo_Pl_sub pl (lo' := fo_f p i + 1 - fo_L p (fo_f p i)) (hi' := fo_f p i + 1) (by omega) (by omega)
        have ii := fo_inside wf (fo_f p i) (by omega) pf k kf (by omega)
        have fS : fo_pic p' (i - 1) = fo_pic p (i - 1) := (fo_cl_pic wf hcl (i - 1) (by omega) (fun j j1 j2 => pn j (by omega))).symm
        rw [fS]
        by_cases z : fo_in (fo_fy p i) (fo_fx p i) (fo_H p (fo_f p i)) (fo_W p (fo_f p i)) a b
        · rw [if_pos z, if_pos z, ia kf (by omega) (a - fo_fy p i) (b - fo_fx p i) (by omega) (by omega)]
          by_cases y : a + yy i = r ∧ b + xx i = c
          · rw [if_pos y, if_pos (by omega)]
          · rw [if_neg y, if_neg (by omega)]
        · rw [if_neg z, if_neg z, if_neg (c := a + yy i = r ∧ _) (by omega)]
      · have ps := fo_Pl_sub pl (lo' := i - 1 + 1 - fo_L p (i - 1)) (hi' := i - 1 + 1) (by omega) (by omega)
        have ii := fo_inside wf (i - 1) (by omega) ps k (by omega) (by omega)
        have fF : fo_pic p' (fo_f p i) = fo_pic p (fo_f p i) := (fo_cl_pic wf hcl (fo_f p i) (by omega) (fun j j1 j2 => pn j (by omega))).symm
        have gd := (fo_geo wf hi h10).2.2.2.2.2.2.2.2
        rw [fF]
        by_cases z : fo_in (fo_sy p i) (fo_sx p i) (fo_H p (i - 1)) (fo_W p (i - 1)) a b
        · rw [if_neg (c := fo_in (fo_fy p i) _ _ _ _ _) (by omega), if_neg (c := fo_in (fo_fy p i) _ _ _ _ _) (by omega), if_pos z, if_pos z, ib (by omega) (by omega) (a - fo_sy p i) (b - fo_sx p i) (by omega) (by omega)]
          by_cases y : a + yy i = r ∧ b + xx i = c
          · rw [if_pos y, if_pos (by omega)]
          · rw [if_neg y, if_neg (by omega)]
        · rw [if_neg (c := fo_in (fo_sy p i) _ _ _ _ _) z, if_neg (c := fo_in (fo_sy p i) _ _ _ _ _) z, if_neg (c := a + yy i = r ∧ _) (by omega)]
theorem ov_pg {v top left : Nat} (wf : fo_WF p n) (h0 : 0 < n) (hL : fo_L p (n - 1) = n) (hk : k < n) (hp' : ∀ j, p' j = if j = k then v else p j) (pl : fo_Pl p yy xx 0 n) (hy : yy (n - 1) = top) (hx : xx (n - 1) = left) (hc : ov_cell p yy xx k r c v) (hcl : ∀ j, j < n → fo_cl (p j) (p' j)) (a b : Nat) : fo_pg p' n top left a b = if a = r ∧ b = c then ov_code v else fo_pg p n top left a b := by
  obtain ⟨dw, dh, db⟩ := fo_cl_D wf hcl (n - 1) (by omega)
  have pl' : fo_Pl p yy xx (n - 1 + 1 - fo_L p (n - 1)) (n - 1 + 1) := fo_Pl_sub pl (by omega) (by omega)
  have ii := fo_inside wf (n - 1) (by omega) pl' k (by omega) (by omega)
  have own1 := hc.1.1
  unfold fo_pg
  rw [← dw, ← dh]
  by_cases z : fo_in top left (fo_H p (n - 1)) (fo_W p (n - 1)) a b
  · rw [if_pos z, if_pos z, ov_pic wf hk hp' pl hc (n - 1) (by omega) (by omega) (by omega) (a - top) (b - left) (by omega) (by omega)]
    by_cases y : a = r ∧ b = c
    · rw [if_pos y, if_pos (by omega)]
    · rw [if_neg y, if_neg (by omega)]
  · rw [if_neg z, if_neg z, if_neg (by omega)]
/-- which character says what -/
theorem ov_kind {v : Nat} (wf : fo_WF p n) (hk : k < n) (pl : fo_Pl p yy xx 0 n) (own : fo_Own p yy xx k r c) (h : (v < 10 ∧ 48 ≤ fo_chr p yy xx k r c ∧ fo_chr p yy xx k r c ≤ 57) ∨ ((v = 10 ∨ v = 11) ∧ (fo_chr p yy xx k r c = 43 ∨ fo_chr p yy xx k r c = 45))) : ov_cell p yy xx k r c v := by
  refine ⟨own, ?_⟩
  have own1 := own.1
  have h14 := (wf k hk).1
  unfold fo_chr at h
  by_cases d : p k < 10
  · rw [if_pos d] at h
    rcases h with h | h
    · exact Or.inl ⟨d, h.1⟩
    · omega
  · rw [if_neg d] at h
    obtain ⟨p1, p2, p3, p4⟩ := pl k (by omega) hk (by omega)
    unfold fo_own at h
    by_cases c13 : p k = 13
    · rw [if_pos c13] at h
      split at h <;> omega
    · rw [if_neg c13] at h
      by_cases cs : p k ≠ 14 ∧ r - yy k = fo_B p k ∧ c - xx k + fo_pB p k + 1 = fo_sx p k
      · rw [if_pos cs] at h
        unfold fo_sg at h
        rcases h with h | h
        · split at h
          · omega
          · split at h <;> omega
        · refine Or.inr ⟨?_, h.1, by omega, by omega⟩
          by_cases e10 : p k = 10
          · exact Or.inl e10
          · rw [if_neg e10] at h
            by_cases e11 : p k = 11
            · exact Or.inr e11
            · rw [if_neg e11] at h; omega
      · rw [if_neg cs] at h
        exfalso
        split at h
        · omega
        · split at h
          · omega
          · split at h
            · omega
            · split at h <;> omega
end
end
section
/-! the relation -/
/-- what is painted: nothing, or one formula at its place -/
def rl_G (rows cols pn : Nat) (g_top g_left : Int32) (a_grid b_painted : Nat → Int32) : Prop :=
  (pn = 0 ∧ ∀ r c, r < rows → c < cols → a_grid (r * cols + c) = 32) ∨
  (0 < pn ∧ ∃ (p : Nat → Nat) (tp lf : Nat), g_top = nI tp ∧ g_left = nI lf ∧ fo_WF p pn ∧ fo_L p (pn - 1) = pn ∧ tp + fo_H p (pn - 1) ≤ rows ∧ lf + fo_W p (pn - 1) ≤ cols ∧ (∀ j, j < pn → b_painted j = nI (p j)) ∧ gd_ok rows cols (fo_pg p pn tp lf) a_grid)
def rl_F (rows cols room n m pn : Nat) (t : Nat → Nat) (a_entry a_boxStart a_boxW a_boxH a_boxB a_grid a_readList : Nat → Int32) (g_top g_left : Int32) (b_entry b_reading b_painted : Nat → Int32) : Prop :=
  (5 ≤ rows ∧ rows ≤ 10 ∧ 9 ≤ cols ∧ cols ≤ 25 ∧ 8 ≤ room ∧ room ≤ 31 ∧ n ≤ room ∧ m ≤ 31 ∧ pn ≤ room) ∧ fo_WF t n ∧ en_ok t n a_entry a_boxStart a_boxW a_boxH a_boxB ∧ (∀ j, j < n → b_entry j = nI (t j)) ∧ (∀ j, j < m → a_readList j = b_reading j) ∧ rl_G rows cols pn g_top g_left a_grid b_painted
def i_Rel (k : Nat) (u : SX) (v : SY) : Prop := match u, v with
  | (f_rows, f_cols, f_room, f_entryCount, f_open, f_readCount, f_seenCount, f_taskCount, f_curTop, f_curLeft, f_curBottom, f_curRight, a_entry, a_boxStart, a_boxW, a_boxH, a_boxB, a_posRow, a_posCol, a_grid, a_readList, a_seenToken, a_seenTop, a_seenLeft, a_seenBottom, a_seenRight, a_taskKind, a_taskTop, a_taskLeft, a_taskBottom, a_taskRight), (g_rows, g_cols, g_room, g_entryLen, g_readingLen, g_paintedLen, g_top, g_left, g_workLen, b_entry, b_reading, b_painted, b_work, b_len, b_w, b_h, b_b, b_first, b_padA, b_padB, b_y, b_x) => ∃ (rows cols room n m pn : Nat) (t : Nat → Nat), (f_rows = nI rows ∧ f_cols = nI cols ∧ f_room = nI room ∧ f_entryCount = nI n ∧ f_open = nI (fo_opn t n) ∧ f_readCount = nI m ∧ g_rows = nI rows ∧ g_cols = nI cols ∧ g_room = nI room ∧ g_entryLen = nI n ∧ g_readingLen = nI m ∧ g_paintedLen = nI pn) ∧ rl_F rows cols room n m pn t a_entry a_boxStart a_boxW a_boxH a_boxB a_grid a_readList g_top g_left b_entry b_reading b_painted
theorem i_up {k : Nat} {u : SX} {v : SY} (h : i_Rel k u v) : i_Rel (k + 4) u v := h
theorem rl_in {k rows cols room n m pn : Nat} {t : Nat → Nat} {f_seenCount f_taskCount f_curTop f_curLeft f_curBottom f_curRight : Int32} {a_entry a_boxStart a_boxW a_boxH a_boxB a_posRow a_posCol a_grid a_readList a_seenToken a_seenTop a_seenLeft a_seenBottom a_seenRight a_taskKind a_taskTop a_taskLeft a_taskBottom a_taskRight : Nat → Int32} {g_top g_left g_workLen : Int32} {b_entry b_reading b_painted b_work b_len b_w b_h b_b b_first b_padA b_padB b_y b_x : Nat → Int32} (F : rl_F rows cols room n m pn t a_entry a_boxStart a_boxW a_boxH a_boxB a_grid a_readList g_top g_left b_entry b_reading b_painted) : i_Rel k (nI rows, nI cols, nI room, nI n, nI (fo_opn t n), nI m, f_seenCount, f_taskCount, f_curTop, f_curLeft, f_curBottom, f_curRight, a_entry, a_boxStart, a_boxW, a_boxH, a_boxB, a_posRow, a_posCol, a_grid, a_readList, a_seenToken, a_seenTop, a_seenLeft, a_seenBottom, a_seenRight, a_taskKind, a_taskTop, a_taskLeft, a_taskBottom, a_taskRight) (nI rows, nI cols, nI room, nI n, nI m, nI pn, g_top, g_left, g_workLen, b_entry, b_reading, b_painted, b_work, b_len, b_w, b_h, b_b, b_first, b_padA, b_padB, b_y, b_x) :=
  ⟨rows, cols, room, n, m, pn, t, ⟨rfl, rfl, rfl, rfl, rfl, rfl, rfl, rfl, rfl, rfl, rfl, rfl⟩, F⟩
theorem rl_el {k : Nat} {u : SX} {v : SY} {P : SX → SY → Prop} (I : i_Rel k u v) (h : ∀ (rows cols room n m pn : Nat) (t : Nat → Nat) {f_seenCount f_taskCount f_curTop f_curLeft f_curBottom f_curRight : Int32} {a_entry a_boxStart a_boxW a_boxH a_boxB a_posRow a_posCol a_grid a_readList a_seenToken a_seenTop a_seenLeft a_seenBottom a_seenRight a_taskKind a_taskTop a_taskLeft a_taskBottom a_taskRight : Nat → Int32} {g_top g_left g_workLen : Int32} {b_entry b_reading b_painted b_work b_len b_w b_h b_b b_first b_padA b_padB b_y b_x : Nat → Int32}, rl_F rows cols room n m pn t a_entry a_boxStart a_boxW a_boxH a_boxB a_grid a_readList g_top g_left b_entry b_reading b_painted → P (nI rows, nI cols, nI room, nI n, nI (fo_opn t n), nI m, f_seenCount, f_taskCount, f_curTop, f_curLeft, f_curBottom, f_curRight, a_entry, a_boxStart, a_boxW, a_boxH, a_boxB, a_posRow, a_posCol, a_grid, a_readList, a_seenToken, a_seenTop, a_seenLeft, a_seenBottom, a_seenRight, a_taskKind, a_taskTop, a_taskLeft, a_taskBottom, a_taskRight) (nI rows, nI cols, nI room, nI n, nI m, nI pn, g_top, g_left, g_workLen, b_entry, b_reading, b_painted, b_work, b_len, b_w, b_h, b_b, b_first, b_padA, b_padB, b_y, b_x)) : P u v := by
  obtain ⟨f_rows, f_cols, f_room, f_entryCount, f_open, f_readCount, f_seenCount, f_taskCount, f_curTop, f_curLeft, f_curBottom, f_curRight, a_entry, a_boxStart, a_boxW, a_boxH, a_boxB, a_posRow, a_posCol, a_grid, a_readList, a_seenToken, a_seenTop, a_seenLeft, a_seenBottom, a_seenRight, a_taskKind, a_taskTop, a_taskLeft, a_taskBottom, a_taskRight⟩ := u
  obtain ⟨g_rows, g_cols, g_room, g_entryLen, g_readingLen, g_paintedLen, g_top, g_left, g_workLen, b_entry, b_reading, b_painted, b_work, b_len, b_w, b_h, b_b, b_first, b_padA, b_padB, b_y, b_x⟩ := v
  obtain ⟨rows, cols, room, n, m, pn, t, ⟨e1, e2, e3, e4, e5, e6, e7, e8, e9, e10, e11, e12⟩, F⟩ := I
  subst e1 e2 e3 e4 e5 e6 e7 e8 e9 e10 e11 e12
  exact h rows cols room n m pn t F
theorem cl_ex (p : Int32) (a b : Nat) (hab : a ≤ b) (hb : b < 2 ^ 31) : ∃ q, a ≤ q ∧ q ≤ b ∧ (∀ (post : Int32 → Prop) (u : SX), post (nI q) → wpX_clamp post u p (nI a) (nI b)) ∧ (∀ (post : Int32 → Prop) (u : SY), post (nI q) → wpY_clamp post u p (nI a) (nI b)) := by
  by_cases h : nI a ≤ p
  · have h0 : ¬ p < 0 := by
      intro z
      rw [Int32.le_iff_toInt_le, nI_toInt (by omega)] at h
      rw [Int32.lt_iff_toInt_lt, Int32.toInt_zero] at z
      omega
    obtain ⟨j, hj, rfl⟩ := nI_of h0
    by_cases h2 : nI j ≤ nI b
    · refine ⟨j, (nI_leI (by omega) hj).mp h, (nI_leI hj hb).mp h2, fun post u hp => ?_, fun post u hp => ?_⟩
      · exact br_t h (br_t h2 hp)
      · exact br_t h (br_t h2 hp)
    · refine ⟨b, hab, Nat.le_refl _, fun post u hp => ?_, fun post u hp => ?_⟩
      · exact br_t h (br_f h2 hp)
      · exact br_t h (br_f h2 hp)
  · refine ⟨a, Nat.le_refl _, hab, fun post u hp => ?_, fun post u hp => ?_⟩
    · exact br_f h hp
    · exact br_f h hp
theorem i_vc0 (k0 : Int32) (k1 : Int32) (k2 : Int32) : wpX_init (fun u => wpY_init (fun v => i_Rel 3 u v) k0 k1 k2) k0 k1 k2 := by
  obtain ⟨rows, r1, r2, rX, rY⟩ := cl_ex k0 5 10 (by omega) (by omega)
  obtain ⟨cols, c1, c2, cX, cY⟩ := cl_ex k1 9 25 (by omega) (by omega)
  obtain ⟨room, o1, o2, oX, oY⟩ := cl_ex k2 8 31 (by omega) (by omega)
  unfold wpX_init
  refine rX _ _ ?_
  refine cX _ _ ?_
  refine oX _ _ ?_
  refine xw_erase ?_
  intro g hg
  show wpY_init _ k0 k1 k2
  unfold wpY_init
  refine rY _ _ ?_
  refine cY _ _ ?_
  refine oY _ _ ?_
  refine rl_in (rows := rows) (cols := cols) (room := room) (n := 0) (m := 0) (pn := 0) (t := fun _ => 0) ⟨⟨r1, r2, c1, c2, o1, o2, by omega, by omega, by omega⟩, fo_WF_0 _, fun j hj => absurd hj (by omega), fun j hj => absurd hj (by omega), fun j hj => absurd hj (by omega), Or.inl ⟨rfl, fun r c hr hc => hg _ (ix_lt hr hc r2 c2)⟩⟩
end
section
/-! the owed statements: the entry list -/
section
variable {f_rows f_cols f_room f_entryCount f_open f_readCount f_seenCount f_taskCount f_curTop f_curLeft f_curBottom f_curRight : Int32} {a_entry a_boxStart a_boxW a_boxH a_boxB a_posRow a_posCol a_grid a_readList a_seenToken a_seenTop a_seenLeft a_seenBottom a_seenRight a_taskKind a_taskTop a_taskLeft a_taskBottom a_taskRight : Nat → Int32}
theorem xw_app_new {post : SX → Prop} {t : Nat → Nat} {n q : Nat} (wf : fo_WF t n) (hn : n < 31) (hq : q ≤ 14) (h2 : 10 ≤ q → 2 ≤ fo_opn t n) (ok : en_ok t n a_entry a_boxStart a_boxW a_boxH a_boxB)
    (hp : ∀ t', (∀ j, j < n → t j = t' j) → t' n = q → fo_WF t' (n + 1) → post (f_rows, f_cols, f_room, nI (n + 1), nI (fo_opn t' (n + 1)), f_readCount, f_seenCount, f_taskCount, f_curTop, f_curLeft, f_curBottom, f_curRight, upd a_entry n (nI (t' n)), upd a_boxStart n (nI (n + 1 - fo_L t' n)), upd a_boxW n (nI (fo_W t' n)), upd a_boxH n (nI (fo_H t' n)), upd a_boxB n (nI (fo_B t' n)), a_posRow, a_posCol, a_grid, a_readList, a_seenToken, a_seenTop, a_seenLeft, a_seenBottom, a_seenRight, a_taskKind, a_taskTop, a_taskLeft, a_taskBottom, a_taskRight)) : wpX_append post (f_rows, f_cols, f_room, nI n, nI (fo_opn t n), f_readCount, f_seenCount, f_taskCount, f_curTop, f_curLeft, f_curBottom, f_curRight, a_entry, a_boxStart, a_boxW, a_boxH, a_boxB, a_posRow, a_posCol, a_grid, a_readList, a_seenToken, a_seenTop, a_seenLeft, a_seenBottom, a_seenRight, a_taskKind, a_taskTop, a_taskLeft, a_taskBottom, a_taskRight) (nI q) := by
  obtain ⟨t', e1, e2⟩ : ∃ t' : Nat → Nat, (∀ j, j < n → t j = t' j) ∧ t' n = q := ⟨fun j => if j = n then q else t j, fun j hj => by dsimp only; rw [if_neg (by omega)], if_pos rfl⟩
  have wf' : fo_WF t' n := fo_cl_WF (fun j hj => Or.inl (e1 j hj)) wf (fun j hj => by rw [← e1 j hj]; exact (wf j hj).1)
  have w2 : fo_WF t' (n + 1) := by
    refine fo_WF_s wf' (by omega) fun z => ?_
    refine fo_opn_two wf' ?_
    rw [← fo_opn_ext n e1]
    exact h2 (by omega)
  have := xw_append (post := post) w2 hn (en_ok_ext wf e1 ok) (hp t' e1 e2 w2)
  rw [e2, ← fo_opn_ext n e1] at this
  exact this
end
theorem i_vc_push {k : Nat} {u : SX} {v : SY} (I : i_Rel k u v) (hk : k + 4 ≤ 2051) (v1 : Int32) : wpX_push (fun r u' => wpY_push (fun r' v' => r' = r ∧ i_Rel (k + 4) u' v') v v1) u v1 := by
  refine rl_el (P := fun u v => wpX_push (fun r u' => wpY_push (fun r' v' => r' = r ∧ i_Rel (k + 4) u' v') v v1) u v1) I ?_
  intro rows cols room n m pn t f_seenCount f_taskCount f_curTop f_curLeft f_curBottom f_curRight a_entry a_boxStart a_boxW a_boxH a_boxB a_posRow a_posCol a_grid a_readList a_seenToken a_seenTop a_seenLeft a_seenBottom a_seenRight a_taskKind a_taskTop a_taskLeft a_taskBottom a_taskRight g_top g_left g_workLen b_entry b_reading b_painted b_work b_len b_w b_h b_b b_first b_padA b_padB b_y b_x F
  obtain ⟨⟨b1, b2, b3, b4, b5, b6, b7, b8, b9⟩, wf, ok, be, br, bg⟩ := F
  have J : i_Rel (k + 4) (nI rows, nI cols, nI room, nI n, nI (fo_opn t n), nI m, f_seenCount, f_taskCount, f_curTop, f_curLeft, f_curBottom, f_curRight, a_entry, a_boxStart, a_boxW, a_boxH, a_boxB, a_posRow, a_posCol, a_grid, a_readList, a_seenToken, a_seenTop, a_seenLeft, a_seenBottom, a_seenRight, a_taskKind, a_taskTop, a_taskLeft, a_taskBottom, a_taskRight) (nI rows, nI cols, nI room, nI n, nI m, nI pn, g_top, g_left, g_workLen, b_entry, b_reading, b_painted, b_work, b_len, b_w, b_h, b_b, b_first, b_padA, b_padB, b_y, b_x) := rl_in ⟨⟨b1, b2, b3, b4, b5, b6, b7, b8, b9⟩, wf, ok, be, br, bg⟩
  by_cases a : v1 < 0
  · exact br_t a (br_t a ⟨rfl, J⟩)
  · by_cases b : v1 ≤ 14
    · obtain ⟨q, hq, rfl⟩ := nI_of2 (M := 14) (n := 14) rfl a b
      refine br_f a (br_t b (pk_lt n room (fun c => ?_) (fun c => ?_)))
      · have K : (10 ≤ q → 2 ≤ fo_opn t n) → wX_push_41 (fun r u' => wpY_push (fun r' v' => r' = r ∧ i_Rel (k + 4) u' v') (nI rows, nI cols, nI room, nI n, nI m, nI pn, g_top, g_left, g_workLen, b_entry, b_reading, b_painted, b_work, b_len, b_w, b_h, b_b, b_first, b_padA, b_padB, b_y, b_x) (nI q)) (nI q) (nI rows) (nI cols) (nI room) (nI n) (nI (fo_opn t n)) (nI m) f_seenCount f_taskCount f_curTop f_curLeft f_curBottom f_curRight a_entry a_boxStart a_boxW a_boxH a_boxB a_posRow a_posCol a_grid a_readList a_seenToken a_seenTop a_seenLeft a_seenBottom a_seenRight a_taskKind a_taskTop a_taskLeft a_taskBottom a_taskRight := by
          intro h2
          refine xw_app_new wf (by omega) hq h2 ok ?_
          intro t' e1 e2 w2
          have P41 : wY_push_41 (fun r' v' => r' = 0 ∧ i_Rel (k + 4) (nI rows, nI cols, nI room, nI (n + 1), nI (fo_opn t' (n + 1)), nI m, f_seenCount, f_taskCount, f_curTop, f_curLeft, f_curBottom, f_curRight, upd a_entry n (nI (t' n)), upd a_boxStart n (nI (n + 1 - fo_L t' n)), upd a_boxW n (nI (fo_W t' n)), upd a_boxH n (nI (fo_H t' n)), upd a_boxB n (nI (fo_B t' n)), a_posRow, a_posCol, a_grid, a_readList, a_seenToken, a_seenTop, a_seenLeft, a_seenBottom, a_seenRight, a_taskKind, a_taskTop, a_taskLeft, a_taskBottom, a_taskRight) v') (nI q) (nI rows) (nI cols) (nI room) (nI n) (nI m) (nI pn) g_top g_left g_workLen b_entry b_reading b_painted b_work b_len b_w b_h b_b b_first b_padA b_padB b_y b_x := by
            refine ⟨pk_in n 31 (by omega), nm_r (e' := upd b_entry n (nI (t' n))) (by rw [nI_clamp (by omega), e2]) (nm_r (nI_1 n) ⟨rfl, ?_⟩)⟩
            refine rl_in (n := n + 1) (t := t') ⟨⟨b1, b2, b3, b4, b5, b6, by omega, b8, b9⟩, w2, en_ok_s (en_ok_ext wf e1 ok), ?_, br, bg⟩
            intro j hj
            by_cases e : j = n
            · rw [e, pk_us]
            · rw [pk_un e, be j (by omega), e1 j (by omega)]
          refine br_f a (br_t b (br_t (nI_lt c (by omega)) (pk_lt q 10 (fun d => P41) (fun d => ?_))))
          refine yw_open wf (by omega) be ?_
          exact br_t (nI_le (a := 2) (h2 d) (by have := fo_opn_le t n; omega)) P41
        refine pk_lt q 10 (fun d => ?_) (fun d => ?_)
        · exact K (fun z => absurd z (by omega))
        · have ho := fo_opn_le t n
          refine pk_le 2 (fo_opn t n) (fun o => ?_) (fun o => ?_)
          · exact K (fun _ => o)
          · refine br_f a (br_t b (br_t (nI_lt c (by omega)) (br_f (nI_nlt (b := 10) d (by omega)) ?_)))
            refine yw_open wf (by omega) be ?_
            exact br_f (nI_ge (b := 2) o (by omega)) ⟨rfl, J⟩
      · exact br_f a (br_t b (br_f (nI_nlt c (by omega)) ⟨rfl, J⟩))
    · exact br_f a (br_f b (br_f a (br_f b ⟨rfl, J⟩)))
theorem i_vc_undo {k : Nat} {u : SX} {v : SY} (I : i_Rel k u v) (hk : k + 4 ≤ 2051) : wpX_undo (fun r u' => wpY_undo (fun r' v' => r' = r ∧ i_Rel (k + 4) u' v') v) u := by
  refine rl_el (P := fun u v => wpX_undo (fun r u' => wpY_undo (fun r' v' => r' = r ∧ i_Rel (k + 4) u' v') v) u) I ?_
  intro rows cols room n m pn t f_seenCount f_taskCount f_curTop f_curLeft f_curBottom f_curRight a_entry a_boxStart a_boxW a_boxH a_boxB a_posRow a_posCol a_grid a_readList a_seenToken a_seenTop a_seenLeft a_seenBottom a_seenRight a_taskKind a_taskTop a_taskLeft a_taskBottom a_taskRight g_top g_left g_workLen b_entry b_reading b_painted b_work b_len b_w b_h b_b b_first b_padA b_padB b_y b_x F
  obtain ⟨⟨b1, b2, b3, b4, b5, b6, b7, b8, b9⟩, wf, ok, be, br, bg⟩ := F
  have J : i_Rel (k + 4) (nI rows, nI cols, nI room, nI n, nI (fo_opn t n), nI m, f_seenCount, f_taskCount, f_curTop, f_curLeft, f_curBottom, f_curRight, a_entry, a_boxStart, a_boxW, a_boxH, a_boxB, a_posRow, a_posCol, a_grid, a_readList, a_seenToken, a_seenTop, a_seenLeft, a_seenBottom, a_seenRight, a_taskKind, a_taskTop, a_taskLeft, a_taskBottom, a_taskRight) (nI rows, nI cols, nI room, nI n, nI m, nI pn, g_top, g_left, g_workLen, b_entry, b_reading, b_painted, b_work, b_len, b_w, b_h, b_b, b_first, b_padA, b_padB, b_y, b_x) := rl_in ⟨⟨b1, b2, b3, b4, b5, b6, b7, b8, b9⟩, wf, ok, be, br, bg⟩
  refine pk_eq n 0 (fun a => ?_) (fun a => ?_)
  · subst a
    exact br_t rfl ⟨rfl, J⟩
  · have a0 : ¬ nI n = 0 := nI_ne0 (by omega) (by omega)
    have e : nI n - 1 = nI (n - 1) := xw_pr (by omega)
    have h14 := (wf (n - 1) (by omega)).1
    have J' : i_Rel (k + 4) (nI rows, nI cols, nI room, nI (n - 1), nI (fo_opn t (n - 1)), nI m, f_seenCount, f_taskCount, f_curTop, f_curLeft, f_curBottom, f_curRight, a_entry, a_boxStart, a_boxW, a_boxH, a_boxB, a_posRow, a_posCol, a_grid, a_readList, a_seenToken, a_seenTop, a_seenLeft, a_seenBottom, a_seenRight, a_taskKind, a_taskTop, a_taskLeft, a_taskBottom, a_taskRight) (nI rows, nI cols, nI room, nI (n - 1), nI m, nI pn, g_top, g_left, g_workLen, b_entry, b_reading, b_painted, b_work, b_len, b_w, b_h, b_b, b_first, b_padA, b_padB, b_y, b_x) := rl_in (n := n - 1) ⟨⟨b1, b2, b3, b4, b5, b6, by omega, b8, b9⟩, fo_WF_le wf (by omega), fun j hj => ok j (by omega), fun j hj => be j (by omega), br, bg⟩
    have ho : fo_opn t n = if t (n - 1) < 10 then fo_opn t (n - 1) + 1 else fo_opn t (n - 1) - 1 := by
      obtain ⟨j, rfl⟩ : ∃ j, n = j + 1 := ⟨n - 1, by omega⟩
      rfl
    have Y : wpY_undo (fun r' v' => r' = 0 ∧ i_Rel (k + 4) (nI rows, nI cols, nI room, nI (n - 1), nI (fo_opn t (n - 1)), nI m, f_seenCount, f_taskCount, f_curTop, f_curLeft, f_curBottom, f_curRight, a_entry, a_boxStart, a_boxW, a_boxH, a_boxB, a_posRow, a_posCol, a_grid, a_readList, a_seenToken, a_seenTop, a_seenLeft, a_seenBottom, a_seenRight, a_taskKind, a_taskTop, a_taskLeft, a_taskBottom, a_taskRight) v') (nI rows, nI cols, nI room, nI n, nI m, nI pn, g_top, g_left, g_workLen, b_entry, b_reading, b_painted, b_work, b_len, b_w, b_h, b_b, b_first, b_padA, b_padB, b_y, b_x) := br_f a0 (nm_r e ⟨rfl, J'⟩)
    refine nm_r e ⟨pk_in (n - 1) 31 (by omega), ?_⟩
    rw [nI_clamp (by omega), (ok (n - 1) (by omega)).1]
    refine pk_le 10 (t (n - 1)) (fun d => ?_) (fun d => ?_)
    · have o2 := fo_opn_op wf (i := n - 1) (by omega) d
      refine nm_r (e' := nI (fo_opn t (n - 1))) ?_ Y
      rw [nI_1, ho, if_neg (by omega)]
      exact congrArg nI (by omega)
    · refine nm_r (e' := nI (fo_opn t (n - 1))) ?_ Y
      rw [ho, if_pos d, pk_m1]
theorem i_vc_clear {k : Nat} {u : SX} {v : SY} (I : i_Rel k u v) (hk : k + 4 ≤ 2051) : wpX_clear (fun u' => wpY_clear (fun v' => i_Rel (k + 4) u' v') v) u := by
  refine rl_el (P := fun u v => wpX_clear (fun u' => wpY_clear (fun v' => i_Rel (k + 4) u' v') v) u) I ?_
  intro rows cols room n m pn t f_seenCount f_taskCount f_curTop f_curLeft f_curBottom f_curRight a_entry a_boxStart a_boxW a_boxH a_boxB a_posRow a_posCol a_grid a_readList a_seenToken a_seenTop a_seenLeft a_seenBottom a_seenRight a_taskKind a_taskTop a_taskLeft a_taskBottom a_taskRight g_top g_left g_workLen b_entry b_reading b_painted b_work b_len b_w b_h b_b b_first b_padA b_padB b_y b_x F
  obtain ⟨⟨b1, b2, b3, b4, b5, b6, b7, b8, b9⟩, wf, ok, be, br, bg⟩ := F
  have J : i_Rel (k + 4) (nI rows, nI cols, nI room, nI 0, nI (fo_opn t 0), nI m, f_seenCount, f_taskCount, f_curTop, f_curLeft, f_curBottom, f_curRight, a_entry, a_boxStart, a_boxW, a_boxH, a_boxB, a_posRow, a_posCol, a_grid, a_readList, a_seenToken, a_seenTop, a_seenLeft, a_seenBottom, a_seenRight, a_taskKind, a_taskTop, a_taskLeft, a_taskBottom, a_taskRight) (nI rows, nI cols, nI room, nI 0, nI m, nI pn, g_top, g_left, g_workLen, b_entry, b_reading, b_painted, b_work, b_len, b_w, b_h, b_b, b_first, b_padA, b_padB, b_y, b_x) := rl_in (n := 0) (t := t) ⟨⟨b1, b2, b3, b4, b5, b6, by omega, b8, b9⟩, fo_WF_0 _, fun j hj => absurd hj (by omega), fun j hj => absurd hj (by omega), br, bg⟩
  exact J
theorem i_vc_count {k : Nat} {u : SX} {v : SY} (I : i_Rel k u v) (hk : k + 4 ≤ 2051) : wpX_count (fun r => wpY_count (fun r' => r' = r ∧ i_Rel (k + 4) u v) v) u := by
  refine rl_el (P := fun u v => wpX_count (fun r => wpY_count (fun r' => r' = r ∧ i_Rel (k + 4) u v) v) u) I ?_
  intro rows cols room n m pn t f_seenCount f_taskCount f_curTop f_curLeft f_curBottom f_curRight a_entry a_boxStart a_boxW a_boxH a_boxB a_posRow a_posCol a_grid a_readList a_seenToken a_seenTop a_seenLeft a_seenBottom a_seenRight a_taskKind a_taskTop a_taskLeft a_taskBottom a_taskRight g_top g_left g_workLen b_entry b_reading b_painted b_work b_len b_w b_h b_b b_first b_padA b_padB b_y b_x F
  exact ⟨rfl, rl_in F⟩
theorem i_vc_token {k : Nat} {u : SX} {v : SY} (I : i_Rel k u v) (hk : k + 4 ≤ 2051) (v1 : Int32) : wpX_token (fun r => wpY_token (fun r' => r' = r ∧ i_Rel (k + 4) u v) v v1) u v1 := by
  refine rl_el (P := fun u v => wpX_token (fun r => wpY_token (fun r' => r' = r ∧ i_Rel (k + 4) u v) v v1) u v1) I ?_
  intro rows cols room n m pn t f_seenCount f_taskCount f_curTop f_curLeft f_curBottom f_curRight a_entry a_boxStart a_boxW a_boxH a_boxB a_posRow a_posCol a_grid a_readList a_seenToken a_seenTop a_seenLeft a_seenBottom a_seenRight a_taskKind a_taskTop a_taskLeft a_taskBottom a_taskRight g_top g_left g_workLen b_entry b_reading b_painted b_work b_len b_w b_h b_b b_first b_padA b_padB b_y b_x F
  obtain ⟨⟨b1, b2, b3, b4, b5, b6, b7, b8, b9⟩, wf, ok, be, br, bg⟩ := F
  have J : i_Rel (k + 4) (nI rows, nI cols, nI room, nI n, nI (fo_opn t n), nI m, f_seenCount, f_taskCount, f_curTop, f_curLeft, f_curBottom, f_curRight, a_entry, a_boxStart, a_boxW, a_boxH, a_boxB, a_posRow, a_posCol, a_grid, a_readList, a_seenToken, a_seenTop, a_seenLeft, a_seenBottom, a_seenRight, a_taskKind, a_taskTop, a_taskLeft, a_taskBottom, a_taskRight) (nI rows, nI cols, nI room, nI n, nI m, nI pn, g_top, g_left, g_workLen, b_entry, b_reading, b_painted, b_work, b_len, b_w, b_h, b_b, b_first, b_padA, b_padB, b_y, b_x) := rl_in ⟨⟨b1, b2, b3, b4, b5, b6, b7, b8, b9⟩, wf, ok, be, br, bg⟩
  by_cases a : v1 < 0
  · exact br_t a (br_t a ⟨rfl, J⟩)
  · obtain ⟨q, hq, rfl⟩ := nI_of a
    by_cases c : q < n
    · have vq : vp_in (nI q) 31 := pk_in q 31 (by omega)
      have l := nI_lt c (by omega)
      refine br_f a (br_t l ⟨vq, br_f a (br_t l ⟨vq, ?_, J⟩)⟩)
      rw [nI_clamp (by omega), be q c, (ok q c).1]
    · have l : ¬ nI q < nI n := nI_nlt (by omega) (by omega)
      exact br_f a (br_f l (br_f a (br_f l ⟨rfl, J⟩)))
theorem i_vc_readToken {k : Nat} {u : SX} {v : SY} (I : i_Rel k u v) (hk : k + 4 ≤ 2051) (v1 : Int32) : wpX_readToken (fun r => wpY_readToken (fun r' => r' = r ∧ i_Rel (k + 4) u v) v v1) u v1 := by
  refine rl_el (P := fun u v => wpX_readToken (fun r => wpY_readToken (fun r' => r' = r ∧ i_Rel (k + 4) u v) v v1) u v1) I ?_
  intro rows cols room n m pn t f_seenCount f_taskCount f_curTop f_curLeft f_curBottom f_curRight a_entry a_boxStart a_boxW a_boxH a_boxB a_posRow a_posCol a_grid a_readList a_seenToken a_seenTop a_seenLeft a_seenBottom a_seenRight a_taskKind a_taskTop a_taskLeft a_taskBottom a_taskRight g_top g_left g_workLen b_entry b_reading b_painted b_work b_len b_w b_h b_b b_first b_padA b_padB b_y b_x F
  obtain ⟨⟨b1, b2, b3, b4, b5, b6, b7, b8, b9⟩, wf, ok, be, br, bg⟩ := F
  have J : i_Rel (k + 4) (nI rows, nI cols, nI room, nI n, nI (fo_opn t n), nI m, f_seenCount, f_taskCount, f_curTop, f_curLeft, f_curBottom, f_curRight, a_entry, a_boxStart, a_boxW, a_boxH, a_boxB, a_posRow, a_posCol, a_grid, a_readList, a_seenToken, a_seenTop, a_seenLeft, a_seenBottom, a_seenRight, a_taskKind, a_taskTop, a_taskLeft, a_taskBottom, a_taskRight) (nI rows, nI cols, nI room, nI n, nI m, nI pn, g_top, g_left, g_workLen, b_entry, b_reading, b_painted, b_work, b_len, b_w, b_h, b_b, b_first, b_padA, b_padB, b_y, b_x) := rl_in ⟨⟨b1, b2, b3, b4, b5, b6, b7, b8, b9⟩, wf, ok, be, br, bg⟩
  by_cases a : v1 < 0
  · exact br_t a (br_t a ⟨rfl, J⟩)
  · obtain ⟨q, hq, rfl⟩ := nI_of a
    by_cases c : q < m
    · have vq : vp_in (nI q) 31 := pk_in q 31 (by omega)
      have l := nI_lt c (by omega)
      refine br_f a (br_t l ⟨vq, br_f a (br_t l ⟨vq, ?_, J⟩)⟩)
      rw [nI_clamp (by omega), br q c]
    · have l : ¬ nI q < nI m := nI_nlt (by omega) (by omega)
      exact br_f a (br_f l (br_f a (br_f l ⟨rfl, J⟩)))
theorem i_vc_erase {k : Nat} {u : SX} {v : SY} (I : i_Rel k u v) (hk : k + 4 ≤ 2051) : wpX_erase (fun u' => wpY_erase (fun v' => i_Rel (k + 4) u' v') v) u := by
  refine rl_el (P := fun u v => wpX_erase (fun u' => wpY_erase (fun v' => i_Rel (k + 4) u' v') v) u) I ?_
  intro rows cols room n m pn t f_seenCount f_taskCount f_curTop f_curLeft f_curBottom f_curRight a_entry a_boxStart a_boxW a_boxH a_boxB a_posRow a_posCol a_grid a_readList a_seenToken a_seenTop a_seenLeft a_seenBottom a_seenRight a_taskKind a_taskTop a_taskLeft a_taskBottom a_taskRight g_top g_left g_workLen b_entry b_reading b_painted b_work b_len b_w b_h b_b b_first b_padA b_padB b_y b_x F
  obtain ⟨⟨b1, b2, b3, b4, b5, b6, b7, b8, b9⟩, wf, ok, be, br, bg⟩ := F
  refine xw_erase ?_
  intro g hg
  have J : i_Rel (k + 4) (nI rows, nI cols, nI room, nI n, nI (fo_opn t n), nI m, f_seenCount, f_taskCount, f_curTop, f_curLeft, f_curBottom, f_curRight, a_entry, a_boxStart, a_boxW, a_boxH, a_boxB, a_posRow, a_posCol, g, a_readList, a_seenToken, a_seenTop, a_seenLeft, a_seenBottom, a_seenRight, a_taskKind, a_taskTop, a_taskLeft, a_taskBottom, a_taskRight) (nI rows, nI cols, nI room, nI n, nI m, nI 0, g_top, g_left, g_workLen, b_entry, b_reading, b_painted, b_work, b_len, b_w, b_h, b_b, b_first, b_padA, b_padB, b_y, b_x) := rl_in (pn := 0) ⟨⟨b1, b2, b3, b4, b5, b6, b7, b8, by omega⟩, wf, ok, be, br, Or.inl ⟨rfl, fun r c hr hc => hg _ (ix_lt hr hc b2 b4)⟩⟩
  exact J
theorem i_vc_width {k : Nat} {u : SX} {v : SY} (I : i_Rel k u v) (hk : k + 4 ≤ 2051) : wpX_width (fun r => wpY_width (fun r' v' => r' = r ∧ i_Rel (k + 4) u v') v) u := by
  refine rl_el (P := fun u v => wpX_width (fun r => wpY_width (fun r' v' => r' = r ∧ i_Rel (k + 4) u v') v) u) I ?_
  intro rows cols room n m pn t f_seenCount f_taskCount f_curTop f_curLeft f_curBottom f_curRight a_entry a_boxStart a_boxW a_boxH a_boxB a_posRow a_posCol a_grid a_readList a_seenToken a_seenTop a_seenLeft a_seenBottom a_seenRight a_taskKind a_taskTop a_taskLeft a_taskBottom a_taskRight g_top g_left g_workLen b_entry b_reading b_painted b_work b_len b_w b_h b_b b_first b_padA b_padB b_y b_x F
  obtain ⟨⟨b1, b2, b3, b4, b5, b6, b7, b8, b9⟩, wf, ok, be, br, bg⟩ := F
  have J : i_Rel (k + 4) (nI rows, nI cols, nI room, nI n, nI (fo_opn t n), nI m, f_seenCount, f_taskCount, f_curTop, f_curLeft, f_curBottom, f_curRight, a_entry, a_boxStart, a_boxW, a_boxH, a_boxB, a_posRow, a_posCol, a_grid, a_readList, a_seenToken, a_seenTop, a_seenLeft, a_seenBottom, a_seenRight, a_taskKind, a_taskTop, a_taskLeft, a_taskBottom, a_taskRight) (nI rows, nI cols, nI room, nI n, nI m, nI pn, g_top, g_left, g_workLen, b_entry, b_reading, b_painted, b_work, b_len, b_w, b_h, b_b, b_first, b_padA, b_padB, b_y, b_x) := rl_in ⟨⟨b1, b2, b3, b4, b5, b6, b7, b8, b9⟩, wf, ok, be, br, bg⟩
  have ho := fo_opn_le t n
  refine pk_eq (fo_opn t n) 1 (fun o => ?_) (fun o => ?_)
  · have h0 := (fo_opn_one wf o).1
    have e : nI n - 1 = nI (n - 1) := xw_pr h0
    have vn : vp_in (nI n - 1) 31 := by rw [e]; exact pk_in (n - 1) 31 (by omega)
    have c : (nI n - 1).toNatClampNeg = n - 1 := by rw [e]; exact nI_clamp (by omega)
    refine ⟨vn, ?_⟩
    unfold wpY_width
    refine yw_open wf (by omega) be ?_
    refine br_t (by rw [o]; rfl) ?_
    refine yw_meas0 wf (by omega) be ?_
    intro wo le w h b fi pA pB ms
    refine ⟨vn, ?_, rl_in ⟨⟨b1, b2, b3, b4, b5, b6, b7, b8, b9⟩, wf, ok, be, br, bg⟩⟩
    rw [c, (ok (n - 1) (by omega)).2.2.1, (ms (n - 1) (by omega)).1.2.2.1]
  · unfold wpY_width
    refine yw_open wf (by omega) be ?_
    refine br_f (fun z => o ((nI_eq (a := fo_opn t n) (b := 1) (by omega) (by omega)).mp z)) ⟨rfl, J⟩
theorem i_vc_height {k : Nat} {u : SX} {v : SY} (I : i_Rel k u v) (hk : k + 4 ≤ 2051) : wpX_height (fun r => wpY_height (fun r' v' => r' = r ∧ i_Rel (k + 4) u v') v) u := by
  refine rl_el (P := fun u v => wpX_height (fun r => wpY_height (fun r' v' => r' = r ∧ i_Rel (k + 4) u v') v) u) I ?_
  intro rows cols room n m pn t f_seenCount f_taskCount f_curTop f_curLeft f_curBottom f_curRight a_entry a_boxStart a_boxW a_boxH a_boxB a_posRow a_posCol a_grid a_readList a_seenToken a_seenTop a_seenLeft a_seenBottom a_seenRight a_taskKind a_taskTop a_taskLeft a_taskBottom a_taskRight g_top g_left g_workLen b_entry b_reading b_painted b_work b_len b_w b_h b_b b_first b_padA b_padB b_y b_x F
  obtain ⟨⟨b1, b2, b3, b4, b5, b6, b7, b8, b9⟩, wf, ok, be, br, bg⟩ := F
  have J : i_Rel (k + 4) (nI rows, nI cols, nI room, nI n, nI (fo_opn t n), nI m, f_seenCount, f_taskCount, f_curTop, f_curLeft, f_curBottom, f_curRight, a_entry, a_boxStart, a_boxW, a_boxH, a_boxB, a_posRow, a_posCol, a_grid, a_readList, a_seenToken, a_seenTop, a_seenLeft, a_seenBottom, a_seenRight, a_taskKind, a_taskTop, a_taskLeft, a_taskBottom, a_taskRight) (nI rows, nI cols, nI room, nI n, nI m, nI pn, g_top, g_left, g_workLen, b_entry, b_reading, b_painted, b_work, b_len, b_w, b_h, b_b, b_first, b_padA, b_padB, b_y, b_x) := rl_in ⟨⟨b1, b2, b3, b4, b5, b6, b7, b8, b9⟩, wf, ok, be, br, bg⟩
  have ho := fo_opn_le t n
  refine pk_eq (fo_opn t n) 1 (fun o => ?_) (fun o => ?_)
  · have h0 := (fo_opn_one wf o).1
    have e : nI n - 1 = nI (n - 1) := xw_pr h0
    have vn : vp_in (nI n - 1) 31 := by rw [e]; exact pk_in (n - 1) 31 (by omega)
    have c : (nI n - 1).toNatClampNeg = n - 1 := by rw [e]; exact nI_clamp (by omega)
    refine ⟨vn, ?_⟩
    unfold wpY_height
    refine yw_open wf (by omega) be ?_
    refine br_t (by rw [o]; rfl) ?_
    refine yw_meas0 wf (by omega) be ?_
    intro wo le w h b fi pA pB ms
    refine ⟨vn, ?_, rl_in ⟨⟨b1, b2, b3, b4, b5, b6, b7, b8, b9⟩, wf, ok, be, br, bg⟩⟩
    rw [c, (ok (n - 1) (by omega)).2.2.2.1, (ms (n - 1) (by omega)).1.2.2.2.1]
  · unfold wpY_height
    refine yw_open wf (by omega) be ?_
    refine br_f (fun z => o ((nI_eq (a := fo_opn t n) (b := 1) (by omega) (by omega)).mp z)) ⟨rfl, J⟩
theorem i_vc_baseline {k : Nat} {u : SX} {v : SY} (I : i_Rel k u v) (hk : k + 4 ≤ 2051) : wpX_baseline (fun r => wpY_baseline (fun r' v' => r' = r ∧ i_Rel (k + 4) u v') v) u := by
  refine rl_el (P := fun u v => wpX_baseline (fun r => wpY_baseline (fun r' v' => r' = r ∧ i_Rel (k + 4) u v') v) u) I ?_
  intro rows cols room n m pn t f_seenCount f_taskCount f_curTop f_curLeft f_curBottom f_curRight a_entry a_boxStart a_boxW a_boxH a_boxB a_posRow a_posCol a_grid a_readList a_seenToken a_seenTop a_seenLeft a_seenBottom a_seenRight a_taskKind a_taskTop a_taskLeft a_taskBottom a_taskRight g_top g_left g_workLen b_entry b_reading b_painted b_work b_len b_w b_h b_b b_first b_padA b_padB b_y b_x F
  obtain ⟨⟨b1, b2, b3, b4, b5, b6, b7, b8, b9⟩, wf, ok, be, br, bg⟩ := F
  have J : i_Rel (k + 4) (nI rows, nI cols, nI room, nI n, nI (fo_opn t n), nI m, f_seenCount, f_taskCount, f_curTop, f_curLeft, f_curBottom, f_curRight, a_entry, a_boxStart, a_boxW, a_boxH, a_boxB, a_posRow, a_posCol, a_grid, a_readList, a_seenToken, a_seenTop, a_seenLeft, a_seenBottom, a_seenRight, a_taskKind, a_taskTop, a_taskLeft, a_taskBottom, a_taskRight) (nI rows, nI cols, nI room, nI n, nI m, nI pn, g_top, g_left, g_workLen, b_entry, b_reading, b_painted, b_work, b_len, b_w, b_h, b_b, b_first, b_padA, b_padB, b_y, b_x) := rl_in ⟨⟨b1, b2, b3, b4, b5, b6, b7, b8, b9⟩, wf, ok, be, br, bg⟩
  have ho := fo_opn_le t n
  refine pk_eq (fo_opn t n) 1 (fun o => ?_) (fun o => ?_)
  · have h0 := (fo_opn_one wf o).1
    have e : nI n - 1 = nI (n - 1) := xw_pr h0
    have vn : vp_in (nI n - 1) 31 := by rw [e]; exact pk_in (n - 1) 31 (by omega)
    have c : (nI n - 1).toNatClampNeg = n - 1 := by rw [e]; exact nI_clamp (by omega)
    refine ⟨vn, ?_⟩
    unfold wpY_baseline
    refine yw_open wf (by omega) be ?_
    refine br_t (by rw [o]; rfl) ?_
    refine yw_meas0 wf (by omega) be ?_
    intro wo le w h b fi pA pB ms
    refine ⟨vn, ?_, rl_in ⟨⟨b1, b2, b3, b4, b5, b6, b7, b8, b9⟩, wf, ok, be, br, bg⟩⟩
    rw [c, (ok (n - 1) (by omega)).2.2.2.2, (ms (n - 1) (by omega)).1.2.2.2.2]
  · unfold wpY_baseline
    refine yw_open wf (by omega) be ?_
    refine br_f (fun z => o ((nI_eq (a := fo_opn t n) (b := 1) (by omega) (by omega)).mp z)) ⟨rfl, J⟩
end
section
/-! the owed statements: paint -/
section
variable {f_rows f_cols f_room f_entryLen f_readingLen f_paintedLen f_top f_left f_workLen : Int32} {a_entry a_reading a_painted a_work a_len a_w a_h a_b a_first a_padA a_padB a_y a_x : Nat → Int32}
theorem yw_height {post : Int32 → SY → Prop} {t : Nat → Nat} {n : Nat} (wf : fo_WF t n) (hn : n ≤ 31) (o : fo_opn t n = 1) (he : ∀ j, j < n → a_entry j = nI (t j)) (hp : ∀ wl wo le w h b fi pA pB, post (nI (fo_H t (n - 1))) (f_rows, f_cols, f_room, nI n, f_readingLen, f_paintedLen, f_top, f_left, wl, a_entry, a_reading, a_painted, wo, le, w, h, b, fi, pA, pB, a_y, a_x)) : wpY_height post (f_rows, f_cols, f_room, nI n, f_readingLen, f_paintedLen, f_top, f_left, f_workLen, a_entry, a_reading, a_painted, a_work, a_len, a_w, a_h, a_b, a_first, a_padA, a_padB, a_y, a_x) := by
  have h0 := (fo_opn_one wf o).1
  have e : nI n - 1 = nI (n - 1) := xw_pr h0
  unfold wpY_height
  refine yw_open wf hn he ?_
  refine br_t (by rw [o]; rfl) ?_
  refine yw_meas0 wf hn he ?_
  intro wo le w h b fi pA pB ms
  refine ⟨by rw [e]; exact pk_in (n - 1) 31 (by omega), ?_⟩
  rw [e, nI_clamp (by omega), (ms (n - 1) (by omega)).1.2.2.2.1]
  exact hp _ _ _ _ _ _ _ _ _
theorem yw_width {post : Int32 → SY → Prop} {t : Nat → Nat} {n : Nat} (wf : fo_WF t n) (hn : n ≤ 31) (o : fo_opn t n = 1) (he : ∀ j, j < n → a_entry j = nI (t j)) (hp : ∀ wl wo le w h b fi pA pB, post (nI (fo_W t (n - 1))) (f_rows, f_cols, f_room, nI n, f_readingLen, f_paintedLen, f_top, f_left, wl, a_entry, a_reading, a_painted, wo, le, w, h, b, fi, pA, pB, a_y, a_x)) : wpY_width post (f_rows, f_cols, f_room, nI n, f_readingLen, f_paintedLen, f_top, f_left, f_workLen, a_entry, a_reading, a_painted, a_work, a_len, a_w, a_h, a_b, a_first, a_padA, a_padB, a_y, a_x) := by
  have h0 := (fo_opn_one wf o).1
  have e : nI n - 1 = nI (n - 1) := xw_pr h0
  unfold wpY_width
  refine yw_open wf hn he ?_
  refine br_t (by rw [o]; rfl) ?_
  refine yw_meas0 wf hn he ?_
  intro wo le w h b fi pA pB ms
  refine ⟨by rw [e]; exact pk_in (n - 1) 31 (by omega), ?_⟩
  rw [e, nI_clamp (by omega), (ms (n - 1) (by omega)).1.2.2.1]
  exact hp _ _ _ _ _ _ _ _ _
theorem yw_pt_l {post : Int32 → SY → Prop} {t : Nat → Nat} {n : Nat} {x1 x2 : Int32} (hn : n ≤ 31) (he : ∀ j, j < n → a_entry j = nI (t j))
    (hp : ∀ pa, (∀ j, j < n → pa j = nI (t j)) → post 0 (f_rows, f_cols, f_room, nI n, f_readingLen, nI n, x1, x2, f_workLen, a_entry, a_reading, pa, a_work, a_len, a_w, a_h, a_b, a_first, a_padA, a_padB, a_y, a_x)) :
    ∀ d i pa, i + d = n → (∀ j, j < i → pa j = nI (t j)) → wY_paint_56 post x1 x2 f_rows f_cols f_room (nI n) f_readingLen f_paintedLen f_top f_left f_workLen (d + 1) (nI i) a_entry a_reading pa a_work a_len a_w a_h a_b a_first a_padA a_padB a_y a_x := by
  intro d
  induction d with
  | zero =>
    intro i pa hi h
    have e : i = n := by omega
    subst e
    exact br_t (nI_le (Nat.le_refl _) (by omega)) (hp pa h)
  | succ d ih =>
    intro i pa hi h
    have ni : vp_in (nI i) 31 := pk_in i 31 (by omega)
    refine br_f (nI_ge (by omega) (by omega)) ⟨ni, ni, nm_r (e' := upd pa i (nI (t i))) (by rw [nI_clamp (by omega), he i (by omega)]) (nm_r (nI_1 i) (ih (i + 1) _ (by omega) ?_))⟩
    intro j hj
    by_cases e : j = i
    · rw [e, pk_us]
    · rw [pk_un e]; exact h j (by omega)
theorem yw_paint {post : Int32 → SY → Prop} {t : Nat → Nat} {n rows cols : Nat} {v1 v2 : Int32} (wf : fo_WF t n) (hn : n ≤ 31) (o : fo_opn t n = 1) (he : ∀ j, j < n → a_entry j = nI (t j))
    (h6 : (v1 < 0 ∨ v2 < 0 ∨ nI rows - nI (fo_H t (n - 1)) < v1 ∨ ¬ v2 ≤ nI cols - nI (fo_W t (n - 1))) → ∀ wl wo le w h b fi pA pB, post 6 (nI rows, nI cols, f_room, nI n, f_readingLen, f_paintedLen, f_top, f_left, wl, a_entry, a_reading, a_painted, wo, le, w, h, b, fi, pA, pB, a_y, a_x))
    (hp : ¬ v1 < 0 → ¬ v2 < 0 → ¬ nI rows - nI (fo_H t (n - 1)) < v1 → v2 ≤ nI cols - nI (fo_W t (n - 1)) → ∀ wl wo le w h b fi pA pB pa, (∀ j, j < n → pa j = nI (t j)) → post 0 (nI rows, nI cols, f_room, nI n, f_readingLen, nI n, v1, v2, wl, a_entry, a_reading, pa, wo, le, w, h, b, fi, pA, pB, a_y, a_x)) :
    wpY_paint post (nI rows, nI cols, f_room, nI n, f_readingLen, f_paintedLen, f_top, f_left, f_workLen, a_entry, a_reading, a_painted, a_work, a_len, a_w, a_h, a_b, a_first, a_padA, a_padB, a_y, a_x) v1 v2 := by
  unfold wpY_paint
  refine yw_open wf hn he ?_
  refine br_t (by rw [o]; rfl) ?_
  refine yw_height wf hn o he ?_
  intro wl1 wo1 le1 w1 h1 b1 fi1 pA1 pB1
  refine yw_width wf hn o he ?_
  intro wl wo le w h b fi pA pB
  refine br_c (fun a => h6 (Or.inl a) _ _ _ _ _ _ _ _ _) (fun a => br_c (fun b => h6 (Or.inr (Or.inl b)) _ _ _ _ _ _ _ _ _) (fun b => br_c (fun c => h6 (Or.inr (Or.inr (Or.inl c))) _ _ _ _ _ _ _ _ _) (fun c => br_c (fun d => ?_) (fun d => h6 (Or.inr (Or.inr (Or.inr d))) _ _ _ _ _ _ _ _ _))))
  exact ⟨n + 1, yw_pt_l hn he (fun pa hpa => hp a b c d _ _ _ _ _ _ _ _ _ pa hpa) n 0 a_painted (by omega) (fun j hj => absurd hj (by omega))⟩
end
theorem pt_fit {a h : Nat} {v : Int32} (ha : a < 2 ^ 20) (hh : h < 2 ^ 20) (h0 : ¬ v < 0) (h1 : ¬ nI a - nI h < v) : ∃ q, v = nI q ∧ q + h ≤ a := by
  obtain ⟨q, hq, rfl⟩ := nI_of h0
  refine ⟨q, rfl, ?_⟩
  rw [Int32.lt_iff_toInt_lt, pk_sub_toInt (by omega) (by omega), nI_toInt hq] at h1
  omega
theorem pt_done {rows cols n top left : Nat} {t yy xx : Nat → Nat} {g : Nat → Int32} (wf : fo_WF t n) (h0 : 0 < n) (hL : fo_L t (n - 1) = n) (pl : fo_Pl t yy xx 0 n) (hy : yy (n - 1) = top) (hx : xx (n - 1) = left) (gi : gi_ok rows cols (fo_pg t n top left) (fun r c => False ∨ ∃ j, j ≤ n - 1 ∧ n - 1 < j + fo_L t (n - 1) ∧ fo_Own t yy xx j r c ∧ fo_pg t n top left r c ≠ 32) g) : gd_ok rows cols (fo_pg t n top left) g := by
  intro r c hr hc
  rcases gi r c hr hc with q | ⟨q1, q2⟩
  · exact q
  · by_cases z : fo_pg t n top left r c = 32
    · rw [z, q1]; rfl
    · exfalso
      apply q2
      refine Or.inr ?_
      have hin : fo_at t yy xx (n - 1) r c := by
        by_cases w : fo_at t yy xx (n - 1) r c
        · exact w
        · exact absurd (fo_pg_none hy hx w) z
      obtain ⟨k, k1, k2, k3, _⟩ := fo_least wf (n - 1) (by omega) (fo_Pl_sub pl (by omega) (by omega)) hin
      exact ⟨k, k1, k2, k3, z⟩
theorem i_vc_paint {k : Nat} {u : SX} {v : SY} (I : i_Rel k u v) (hk : k + 4 ≤ 2051) (v1 : Int32) (v2 : Int32) : wpX_paint (fun r u' => wpY_paint (fun r' v' => r' = r ∧ i_Rel (k + 4) u' v') v v1 v2) u v1 v2 := by
  refine rl_el (P := fun u v => wpX_paint (fun r u' => wpY_paint (fun r' v' => r' = r ∧ i_Rel (k + 4) u' v') v v1 v2) u v1 v2) I ?_
  intro rows cols room n m pn t f_seenCount f_taskCount f_curTop f_curLeft f_curBottom f_curRight a_entry a_boxStart a_boxW a_boxH a_boxB a_posRow a_posCol a_grid a_readList a_seenToken a_seenTop a_seenLeft a_seenBottom a_seenRight a_taskKind a_taskTop a_taskLeft a_taskBottom a_taskRight g_top g_left g_workLen b_entry b_reading b_painted b_work b_len b_w b_h b_b b_first b_padA b_padB b_y b_x F
  obtain ⟨⟨b1, b2, b3, b4, b5, b6, b7, b8, b9⟩, wf, ok, be, br, bg⟩ := F
  have J : i_Rel (k + 4) (nI rows, nI cols, nI room, nI n, nI (fo_opn t n), nI m, f_seenCount, f_taskCount, f_curTop, f_curLeft, f_curBottom, f_curRight, a_entry, a_boxStart, a_boxW, a_boxH, a_boxB, a_posRow, a_posCol, a_grid, a_readList, a_seenToken, a_seenTop, a_seenLeft, a_seenBottom, a_seenRight, a_taskKind, a_taskTop, a_taskLeft, a_taskBottom, a_taskRight) (nI rows, nI cols, nI room, nI n, nI m, nI pn, g_top, g_left, g_workLen, b_entry, b_reading, b_painted, b_work, b_len, b_w, b_h, b_b, b_first, b_padA, b_padB, b_y, b_x) := rl_in ⟨⟨b1, b2, b3, b4, b5, b6, b7, b8, b9⟩, wf, ok, be, br, bg⟩
  have ho := fo_opn_le t n
  refine pk_eq (fo_opn t n) 1 (fun o => ?_) (fun o => ?_)
  · obtain ⟨h0, hL⟩ := fo_opn_one wf o
    have zz := fo_sz wf (n - 1) (by omega)
    obtain ⟨e1, e2, e3, e4, e5⟩ := ok (n - 1) (by omega)
    have vn : vp_in (nI (n - 1)) 31 := pk_in (n - 1) 31 (by omega)
    have cn : (nI (n - 1)).toNatClampNeg = n - 1 := nI_clamp (by omega)
    have Y6 : (v1 < 0 ∨ v2 < 0 ∨ nI rows - nI (fo_H t (n - 1)) < v1 ∨ ¬ v2 ≤ nI cols - nI (fo_W t (n - 1))) → wpY_paint (fun r' v' => r' = 6 ∧ i_Rel (k + 4) (nI rows, nI cols, nI room, nI n, nI (fo_opn t n), nI m, f_seenCount, f_taskCount, f_curTop, f_curLeft, f_curBottom, f_curRight, a_entry, a_boxStart, a_boxW, a_boxH, a_boxB, a_posRow, a_posCol, a_grid, a_readList, a_seenToken, a_seenTop, a_seenLeft, a_seenBottom, a_seenRight, a_taskKind, a_taskTop, a_taskLeft, a_taskBottom, a_taskRight) v') (nI rows, nI cols, nI room, nI n, nI m, nI pn, g_top, g_left, g_workLen, b_entry, b_reading, b_painted, b_work, b_len, b_w, b_h, b_b, b_first, b_padA, b_padB, b_y, b_x) v1 v2 := by
      intro q
      refine yw_paint wf (by omega) o be ?_ ?_
      · intro _ wl wo le w h b fi pA pB
        exact ⟨rfl, rl_in ⟨⟨b1, b2, b3, b4, b5, b6, b7, b8, b9⟩, wf, ok, be, br, bg⟩⟩
      · intro a b c d
        exfalso
        rcases q with q | q | q | q
        · exact a q
        · exact b q
        · exact c q
        · exact q d
    refine nm_r (xw_pr h0) (br_c (fun a => Y6 (Or.inl a)) (fun a => br_c (fun b => Y6 (Or.inr (Or.inl b))) (fun b => ⟨vn, ?_⟩)))
    rw [cn, e3, e4]
    refine br_c (fun c => Y6 (Or.inr (Or.inr (Or.inl c)))) (fun c => ⟨vn, br_c (fun d => ?_) (fun d => Y6 (Or.inr (Or.inr (Or.inr d))))⟩)
    obtain ⟨tp, rfl, ft⟩ := pt_fit (by omega) (by omega) a c
    obtain ⟨lf, rfl, fl⟩ := pt_fit (a := cols) (h := fo_W t (n - 1)) (v := v2) (by omega) (by omega) b (fun z => Int32.not_lt.mpr d z)
    obtain ⟨yy, xx, hy, hx, pl, hb⟩ := fo_places wf h0 hL ft fl
    refine xw_erase ?_
    intro g hg
    refine ⟨vn, nm_r (e' := upd a_posRow (n - 1) (nI (yy (n - 1)))) (by rw [hy]) ⟨vn, nm_r (e' := upd a_posCol (n - 1) (nI (xx (n - 1)))) (by rw [hx]) ?_⟩⟩
    refine ⟨1 + fo_L t (n - 1), ?_⟩
    rw [← pk_m1 (n - 1)]
    refine xw_pt_r b2 b4 wf (by omega) h0 hL pl hy hx hb ok (n - 1) (by omega) 1 (fun _ _ => False) _ _ _ pk_us pk_us (fun r c hr hc => Or.inr ⟨hg _ (ix_lt hr hc b2 b4), id⟩) ?_
    intro pr pc g' _ gi
    have gd := pt_done wf h0 hL pl hy hx gi
    rw [show n - 1 + 1 - fo_L t (n - 1) = 0 by omega]
    refine br_t (by decide) ?_
    refine yw_paint wf (by omega) o be ?_ ?_
    · intro q
      exfalso
      rcases q with q | q | q | q
      · exact a q
      · exact b q
      · exact c q
      · exact q d
    · intro _ _ _ _ wl wo le w h b fi pA pB pa hpa
      exact ⟨rfl, rl_in (pn := n) ⟨⟨b1, b2, b3, b4, b5, b6, b7, b8, b7⟩, wf, ok, be, br, Or.inr ⟨h0, t, tp, lf, rfl, rfl, wf, hL, ft, fl, hpa, gd⟩⟩⟩
  · unfold wpY_paint
    refine yw_open wf (by omega) be ?_
    refine br_f (fun z => o ((nI_eq (a := fo_opn t n) (b := 1) (by omega) (by omega)).mp z)) ⟨rfl, J⟩
end
section
/-! the owed statements: cell, overwrite -/
section
variable {f_rows f_cols f_room f_entryLen f_readingLen f_paintedLen f_top f_left f_workLen : Int32} {a_entry a_reading a_painted a_work a_len a_w a_h a_b a_first a_padA a_padB a_y a_x : Nat → Int32}
/-- the reference's cell answers what the grid holds -/
theorem yw_cellR {post : Int32 → SY → Prop} {rows cols pn r c : Nat} {a_grid : Nat → Int32} (h1 : rows ≤ 10) (h2 : cols ≤ 25) (h3 : pn ≤ 31) (bg : rl_G rows cols pn f_top f_left a_grid a_painted) (hr : r < rows) (hc : c < cols)
    (hp : ∀ wl wo le w h b fi pA pB y x, post (a_grid (r * cols + c)) (nI rows, nI cols, f_room, f_entryLen, f_readingLen, nI pn, f_top, f_left, wl, a_entry, a_reading, a_painted, wo, le, w, h, b, fi, pA, pB, y, x)) : wpY_cell post (nI rows, nI cols, f_room, f_entryLen, f_readingLen, nI pn, f_top, f_left, f_workLen, a_entry, a_reading, a_painted, a_work, a_len, a_w, a_h, a_b, a_first, a_padA, a_padB, a_y, a_x) (nI r) (nI c) := by
  rcases bg with ⟨p0, hb⟩ | ⟨p0, p, tp, lf, e1, e2, wf, hL, fr, fc, hpa, gd⟩
  · subst p0
    rw [hb r c hr hc] at hp
    exact yw_cell0 h1 h2 hr hc hp
  · subst e1 e2
    rw [gd r c hr hc] at hp
    exact yw_cell h1 h2 wf h3 p0 hL hpa fr fc hr hc hp
theorem yw_cellO {post : Int32 → SY → Prop} {rows cols : Nat} {p q : Int32} (h1 : rows ≤ 10) (h2 : cols ≤ 25) (h : ¬ ∃ r c : Nat, r < rows ∧ c < cols ∧ p = nI r ∧ q = nI c) (hp : post (-1) (nI rows, nI cols, f_room, f_entryLen, f_readingLen, f_paintedLen, f_top, f_left, f_workLen, a_entry, a_reading, a_painted, a_work, a_len, a_w, a_h, a_b, a_first, a_padA, a_padB, a_y, a_x)) : wpY_cell post (nI rows, nI cols, f_room, f_entryLen, f_readingLen, f_paintedLen, f_top, f_left, f_workLen, a_entry, a_reading, a_painted, a_work, a_len, a_w, a_h, a_b, a_first, a_padA, a_padB, a_y, a_x) p q := by
  unfold wpY_cell
  exact yw_outside1 (by omega) (by omega) h (br_f (by decide) hp)
end
theorem i_vc_cell {k : Nat} {u : SX} {v : SY} (I : i_Rel k u v) (hk : k + 4 ≤ 2051) (v1 : Int32) (v2 : Int32) : wpX_cell (fun r => wpY_cell (fun r' v' => r' = r ∧ i_Rel (k + 4) u v') v v1 v2) u v1 v2 := by
  refine rl_el (P := fun u v => wpX_cell (fun r => wpY_cell (fun r' v' => r' = r ∧ i_Rel (k + 4) u v') v v1 v2) u v1 v2) I ?_
  intro rows cols room n m pn t f_seenCount f_taskCount f_curTop f_curLeft f_curBottom f_curRight a_entry a_boxStart a_boxW a_boxH a_boxB a_posRow a_posCol a_grid a_readList a_seenToken a_seenTop a_seenLeft a_seenBottom a_seenRight a_taskKind a_taskTop a_taskLeft a_taskBottom a_taskRight g_top g_left g_workLen b_entry b_reading b_painted b_work b_len b_w b_h b_b b_first b_padA b_padB b_y b_x F
  obtain ⟨⟨b1, b2, b3, b4, b5, b6, b7, b8, b9⟩, wf, ok, be, br, bg⟩ := F
  by_cases q : ∃ r c : Nat, r < rows ∧ c < cols ∧ v1 = nI r ∧ v2 = nI c
  · obtain ⟨r, c, hr, hc, rfl, rfl⟩ := q
    refine xw_cell b2 b4 hr hc ?_
    refine yw_cellR b2 b4 (by omega) bg hr hc ?_
    intro wl wo le w h b fi pA pB y x
    exact ⟨rfl, rl_in ⟨⟨b1, b2, b3, b4, b5, b6, b7, b8, b9⟩, wf, ok, be, br, bg⟩⟩
  · refine xw_cell0 b2 b4 q ?_
    refine yw_cellO b2 b4 q ?_
    exact ⟨rfl, rl_in ⟨⟨b1, b2, b3, b4, b5, b6, b7, b8, b9⟩, wf, ok, be, br, bg⟩⟩
/-- the painted formula with one token changed -/
theorem ov_rl {rows cols pn r c kk v tp lf : Nat} {p yy xx : Nat → Nat} {g pa : Nat → Int32} (p0 : 0 < pn) (wf : fo_WF p pn) (hL : fo_L p (pn - 1) = pn) (fr : tp + fo_H p (pn - 1) ≤ rows) (fc : lf + fo_W p (pn - 1) ≤ cols) (hpa : ∀ j, j < pn → pa j = nI (p j)) (gd : gd_ok rows cols (fo_pg p pn tp lf) g) (pl : fo_Pl p yy xx 0 pn) (hy : yy (pn - 1) = tp) (hx : xx (pn - 1) = lf) (hk : kk < pn) (hc : ov_cell p yy xx kk r c v) (hr : r < rows) (hcc : c < cols) (hv : v ≤ 14) :
    rl_G rows cols pn (nI tp) (nI lf) (upd g (r * cols + c) (nI (ov_code v))) (upd pa kk (nI v)) := by
  obtain ⟨p', hp'⟩ : ∃ p' : Nat → Nat, ∀ j, p' j = if j = kk then v else p j := ⟨fun j => if j = kk then v else p j, fun j => rfl⟩
  have hcl : ∀ j, j < pn → fo_cl (p j) (p' j) := by
    intro j hj
    rw [hp' j]
    by_cases e : j = kk
    · rw [if_pos e, e]
      rcases hc.2 with q | q
      · exact Or.inr (Or.inl q)
      · exact Or.inr (Or.inr ⟨q.1, q.2.1⟩)
    · rw [if_neg e]; exact Or.inl rfl
  obtain ⟨dw, dh, db⟩ := fo_cl_D wf hcl (pn - 1) (by omega)
  refine Or.inr ⟨p0, p', tp, lf, rfl, rfl, fo_cl_WF hcl wf ?_, ?_, by omega, by omega, ?_, ?_⟩
  · intro j hj
    rw [hp' j]
    by_cases e : j = kk
    · rw [if_pos e]; exact hv
    · rw [if_neg e]; exact (wf j hj).1
  · rw [← fo_cl_L hcl (pn - 1) (by omega)]; exact hL
  · intro j hj
    rw [hp' j]
    by_cases e : j = kk
    · rw [if_pos e, e, pk_us]
    · rw [if_neg e, pk_un e, hpa j hj]
  · intro a b ha hb
    rw [ov_pg wf p0 hL hk hp' pl hy hx hc hcl a b]
    by_cases e : a * cols + b = r * cols + c
    · obtain ⟨e1, e2⟩ := ix_inj hb hcc e
      rw [if_pos ⟨e1, e2⟩, e, pk_us]
    · rw [pk_un e, if_neg (fun z => e (by rw [z.1, z.2])), gd a b ha hb]
section
variable {f_rows f_cols f_room f_entryLen f_readingLen f_paintedLen f_top f_left f_workLen : Int32} {a_entry a_reading a_painted a_work a_len a_w a_h a_b a_first a_padA a_padB a_y a_x : Nat → Int32}
theorem yw_ov103 {post : Int32 → SY → Prop} {rows cols pn r c v : Nat} {a_grid : Nat → Int32} {x3 x4 : Int32} (h1 : rows ≤ 10) (h2 : cols ≤ 25) (h3 : pn ≤ 31) (bg : rl_G rows cols pn f_top f_left a_grid a_painted) (hr : r < rows) (hc : c < cols) (hv : v ≤ 14)
    (hcd : (v < 10 ∧ ¬ x4 = 0 ∧ x3 = nI (48 + v) ∧ ∃ q, 48 ≤ q ∧ q ≤ 57 ∧ a_grid (r * cols + c) = nI q) ∨ ((v = 10 ∧ x3 = 43 ∨ v = 11 ∧ x3 = 45) ∧ x4 = 0 ∧ (a_grid (r * cols + c) = 43 ∨ a_grid (r * cols + c) = 45)))
    (hp : ∀ wl wo le w h b fi pA pB y x pa, rl_G rows cols pn f_top f_left (upd a_grid (r * cols + c) x3) pa → post 0 (f_rows, f_cols, f_room, f_entryLen, f_readingLen, nI pn, f_top, f_left, wl, a_entry, a_reading, pa, wo, le, w, h, b, fi, pA, pB, y, x)) : wY_overwrite_103 post (nI r) (nI c) x3 x4 f_rows f_cols f_room f_entryLen f_readingLen (nI pn) f_top f_left f_workLen a_entry a_reading a_painted a_work a_len a_w a_h a_b a_first a_padA a_padB a_y a_x := by
  have ex : x3 = nI (ov_code v) := by
    unfold ov_code
    rcases hcd with q | q
    · rw [if_pos q.1]; exact q.2.2.1
    · rcases q.1 with w | w
      · rw [w.1]; exact w.2
      · rw [w.1]; exact w.2
  have ne : ¬ a_grid (r * cols + c) = 32 := by
    rcases hcd with ⟨_, _, _, q, q1, q2, q3⟩ | ⟨_, _, q | q⟩
    · rw [q3]
      intro z
      have := (nI_eq (a := q) (b := 32) (by omega) (by omega)).mp z
      omega
    · rw [q]; decide
    · rw [q]; decide
  rcases bg with ⟨p0, hb⟩ | ⟨p0, p, tp, lf, e1, e2, wf, hL, fr, fc, hpa, gd⟩
  · exact absurd (hb r c hr hc) ne
  · subst e1 e2
    obtain ⟨yy, xx, hy, hx, pl, hb⟩ := fo_places wf p0 hL fr fc
    have hb' : ∀ j, j < pn → yy j + fo_H p j ≤ 1000 ∧ xx j + fo_W p j ≤ 1000 := fun j hj => by have := hb j hj; omega
    unfold wY_overwrite_103
    refine yw_inn wf h3 p0 hL hpa pl hy hx hb' (by omega) (by omega) ?_ ?_
    · intro no
      exfalso
      apply ne
      rw [gd r c hr hc, fo_pg_none hy hx (no (pn - 1) (by omega))]; rfl
    · intro kk k1 k2 k3 wo le w h b fi pA pB y x ms q
      obtain ⟨own, e⟩ := fo_pg_own wf p0 hL pl hy hx k1 k2 k3
      have gv := gd r c hr hc
      rw [e] at gv
      have lt := fo_pg_lt (top := tp) (left := lf) wf p0 r c
      rw [e] at lt
      have oc : ov_cell p yy xx kk r c v := by
        refine ov_kind wf k1 pl own ?_
        rcases hcd with ⟨q0, _, _, q, q1, q2, q3⟩ | ⟨q0, _, q | q⟩
        · have := (nI_eq (a := fo_chr p yy xx kk r c) (b := q) (by omega) (by omega)).mp (gv.symm.trans q3)
          exact Or.inl ⟨q0, by omega, by omega⟩
        · have := (nI_eq (a := fo_chr p yy xx kk r c) (b := 43) (by omega) (by omega)).mp (gv.symm.trans q)
          exact Or.inr ⟨by omega, Or.inl this⟩
        · have := (nI_eq (a := fo_chr p yy xx kk r c) (b := 45) (by omega) (by omega)).mp (gv.symm.trans q)
          exact Or.inr ⟨by omega, Or.inr this⟩
      have R := ov_rl p0 wf hL fr fc hpa gd pl hy hx k1 oc hr hc hv
      rw [← ex] at R
      have nk : vp_in (nI kk) 31 := pk_in kk 31 (by omega)
      have ck : (nI kk).toNatClampNeg = kk := nI_clamp (by omega)
      refine br_t (nI_pos' (by omega)) ?_
      rcases hcd with ⟨q0, q1, q2, _⟩ | ⟨q0, q1, _⟩
      · refine br_f q1 ⟨nk, nm_r (e' := upd a_painted kk (nI v)) ?_ (hp _ _ _ _ _ _ _ _ _ _ _ _ R)⟩
        rw [ck, q2, show nI (48 + v) - 48 = nI (48 + v) - nI 48 from rfl, pk_sub (by omega), show 48 + v - 48 = v by omega]
      · refine br_t q1 ?_
        rcases q0 with ⟨v0, x0⟩ | ⟨v0, x0⟩
        · refine br_t x0 ⟨nk, nm_r (e' := upd a_painted kk (nI v)) ?_ (hp _ _ _ _ _ _ _ _ _ _ _ _ R)⟩
          rw [ck, v0]; rfl
        · refine br_f (by rw [x0]; decide) ⟨nk, nm_r (e' := upd a_painted kk (nI v)) ?_ (hp _ _ _ _ _ _ _ _ _ _ _ _ R)⟩
          rw [ck, v0]; rfl
end
end
section
/-! the owed statements: overwrite -/
section
variable {f_rows f_cols f_room f_entryCount f_open f_readCount f_seenCount f_taskCount f_curTop f_curLeft f_curBottom f_curRight : Int32} {a_entry a_boxStart a_boxW a_boxH a_boxB a_posRow a_posCol a_grid a_readList a_seenToken a_seenTop a_seenLeft a_seenBottom a_seenRight a_taskKind a_taskTop a_taskLeft a_taskBottom a_taskRight : Nat → Int32}
theorem xw_isDig1 {post : Int32 → Prop} {x : Int32} (h : ¬ x < 48 ∧ ¬ 57 < x) (hp : post 1) : wpX_isDigit post (f_rows, f_cols, f_room, f_entryCount, f_open, f_readCount, f_seenCount, f_taskCount, f_curTop, f_curLeft, f_curBottom, f_curRight, a_entry, a_boxStart, a_boxW, a_boxH, a_boxB, a_posRow, a_posCol, a_grid, a_readList, a_seenToken, a_seenTop, a_seenLeft, a_seenBottom, a_seenRight, a_taskKind, a_taskTop, a_taskLeft, a_taskBottom, a_taskRight) x := br_f h.1 (br_f h.2 hp)
theorem xw_isDig0 {post : Int32 → Prop} {x : Int32} (h : ¬ (¬ x < 48 ∧ ¬ 57 < x)) (hp : post 0) : wpX_isDigit post (f_rows, f_cols, f_room, f_entryCount, f_open, f_readCount, f_seenCount, f_taskCount, f_curTop, f_curLeft, f_curBottom, f_curRight, a_entry, a_boxStart, a_boxW, a_boxH, a_boxB, a_posRow, a_posCol, a_grid, a_readList, a_seenToken, a_seenTop, a_seenLeft, a_seenBottom, a_seenRight, a_taskKind, a_taskTop, a_taskLeft, a_taskBottom, a_taskRight) x := br_c (fun _ => hp) (fun a => br_c (fun _ => hp) (fun b => absurd ⟨a, b⟩ h))
theorem xw_isSig1 {post : Int32 → Prop} {x : Int32} (h : x = 43 ∨ x = 45) (hp : post 1) : wpX_isSign post (f_rows, f_cols, f_room, f_entryCount, f_open, f_readCount, f_seenCount, f_taskCount, f_curTop, f_curLeft, f_curBottom, f_curRight, a_entry, a_boxStart, a_boxW, a_boxH, a_boxB, a_posRow, a_posCol, a_grid, a_readList, a_seenToken, a_seenTop, a_seenLeft, a_seenBottom, a_seenRight, a_taskKind, a_taskTop, a_taskLeft, a_taskBottom, a_taskRight) x := br_c (fun _ => hp) (fun a => br_c (fun _ => hp) (fun b => (h.elim a b).elim))
theorem xw_isSig0 {post : Int32 → Prop} {x : Int32} (h : ¬ (x = 43 ∨ x = 45)) (hp : post 0) : wpX_isSign post (f_rows, f_cols, f_room, f_entryCount, f_open, f_readCount, f_seenCount, f_taskCount, f_curTop, f_curLeft, f_curBottom, f_curRight, a_entry, a_boxStart, a_boxW, a_boxH, a_boxB, a_posRow, a_posCol, a_grid, a_readList, a_seenToken, a_seenTop, a_seenLeft, a_seenBottom, a_seenRight, a_taskKind, a_taskTop, a_taskLeft, a_taskBottom, a_taskRight) x := br_f (fun z => h (Or.inl z)) (br_f (fun z => h (Or.inr z)) hp)
end
section
variable {f_rows f_cols f_room f_entryLen f_readingLen f_paintedLen f_top f_left f_workLen : Int32} {a_entry a_reading a_painted a_work a_len a_w a_h a_b a_first a_padA a_padB a_y a_x : Nat → Int32}
variable {rows cols pn r c : Nat} {a_grid : Nat → Int32} {x3 : Int32} {post : Int32 → SY → Prop}
theorem yw_ovB (h1 : rows ≤ 10) (h2 : cols ≤ 25) (h3 : pn ≤ 31) (bg : rl_G rows cols pn f_top f_left a_grid a_painted) (hr : r < rows) (hc : c < cols) (hb : ¬ (¬ x3 < 48 ∧ ¬ 57 < x3)) (hs : ¬ (x3 = 43 ∨ x3 = 45)) (h8 : post 8 (nI rows, nI cols, f_room, f_entryLen, f_readingLen, nI pn, f_top, f_left, f_workLen, a_entry, a_reading, a_painted, a_work, a_len, a_w, a_h, a_b, a_first, a_padA, a_padB, a_y, a_x)) : wpY_overwrite post (nI rows, nI cols, f_room, f_entryLen, f_readingLen, nI pn, f_top, f_left, f_workLen, a_entry, a_reading, a_painted, a_work, a_len, a_w, a_h, a_b, a_first, a_padA, a_padB, a_y, a_x) (nI r) (nI c) x3 := by
  have K : wY_overwrite_28 post (nI r) (nI c) x3 (nI rows) (nI cols) f_room f_entryLen f_readingLen (nI pn) f_top f_left f_workLen a_entry a_reading a_painted a_work a_len a_w a_h a_b a_first a_padA a_padB a_y a_x := br_t rfl (br_f (fun z => hs (Or.inl z)) (br_f (fun z => hs (Or.inr z)) h8))
  unfold wpY_overwrite
  refine yw_outside (by omega) (by omega) hr hc ?_
  exact br_t rfl (br_c (fun _ => K) (fun a => br_c (fun _ => K) (fun b => absurd ⟨a, b⟩ hb)))
theorem yw_ovD9 (h1 : rows ≤ 10) (h2 : cols ≤ 25) (h3 : pn ≤ 31) (bg : rl_G rows cols pn f_top f_left a_grid a_painted) (hr : r < rows) (hc : c < cols) (hd : ¬ x3 < 48 ∧ ¬ 57 < x3) (hh : ¬ (¬ a_grid (r * cols + c) < 48 ∧ ¬ 57 < a_grid (r * cols + c))) (h9 : ∀ wl wo le w h b fi pA pB y x, post 9 (nI rows, nI cols, f_room, f_entryLen, f_readingLen, nI pn, f_top, f_left, wl, a_entry, a_reading, a_painted, wo, le, w, h, b, fi, pA, pB, y, x)) : wpY_overwrite post (nI rows, nI cols, f_room, f_entryLen, f_readingLen, nI pn, f_top, f_left, f_workLen, a_entry, a_reading, a_painted, a_work, a_len, a_w, a_h, a_b, a_first, a_padA, a_padB, a_y, a_x) (nI r) (nI c) x3 := by
  unfold wpY_overwrite
  refine yw_outside (by omega) (by omega) hr hc ?_
  refine br_t rfl (br_f hd.1 (br_f hd.2 (br_f (by decide) ?_)))
  refine yw_cellR h1 h2 h3 bg hr hc ?_
  intro wl wo le w h b fi pA pB y x
  refine br_f (by decide) (br_c (fun _ => h9 _ _ _ _ _ _ _ _ _ _ _) (fun a => br_c (fun b => ?_) (fun _ => h9 _ _ _ _ _ _ _ _ _ _ _)))
  exact absurd ⟨a, Int32.not_lt.mpr b⟩ hh
theorem yw_ovD (h1 : rows ≤ 10) (h2 : cols ≤ 25) (h3 : pn ≤ 31) (bg : rl_G rows cols pn f_top f_left a_grid a_painted) (hr : r < rows) (hc : c < cols) {v : Nat} (hv : v < 10) (hx : x3 = nI (48 + v)) (hd : ¬ x3 < 48 ∧ ¬ 57 < x3) (hh : ¬ a_grid (r * cols + c) < 48 ∧ ¬ 57 < a_grid (r * cols + c)) (hp : ∀ wl wo le w h b fi pA pB y x pa, rl_G rows cols pn f_top f_left (upd a_grid (r * cols + c) x3) pa → post 0 (nI rows, nI cols, f_room, f_entryLen, f_readingLen, nI pn, f_top, f_left, wl, a_entry, a_reading, pa, wo, le, w, h, b, fi, pA, pB, y, x)) : wpY_overwrite post (nI rows, nI cols, f_room, f_entryLen, f_readingLen, nI pn, f_top, f_left, f_workLen, a_entry, a_reading, a_painted, a_work, a_len, a_w, a_h, a_b, a_first, a_padA, a_padB, a_y, a_x) (nI r) (nI c) x3 := by
  unfold wpY_overwrite
  refine yw_outside (by omega) (by omega) hr hc ?_
  refine br_t rfl (br_f hd.1 (br_f hd.2 (br_f (by decide) ?_)))
  refine yw_cellR h1 h2 h3 bg hr hc ?_
  intro wl wo le w h b fi pA pB y x
  refine br_f (by decide) (br_f hh.1 (br_t (Int32.not_lt.mp hh.2) (br_f (by decide) ?_)))
  refine yw_ov103 (v := v) h1 h2 h3 bg hr hc (by omega) (Or.inl ⟨hv, by decide, hx, ?_⟩) ?_
  · obtain ⟨q, hq, e⟩ := nI_of2 (M := 57) (n := 57) rfl (x := a_grid (r * cols + c)) (fun z => hh.1 (Int32.lt_trans z (by decide))) (Int32.not_lt.mp hh.2)
    refine ⟨q, ?_, hq, e⟩
    have := hh.1
    rw [e] at this
    by_cases z : 48 ≤ q
    · exact z
    · exact absurd (nI_lt (b := 48) (by omega) (by omega)) this
  · intro wl wo le w h b fi pA pB y x pa R
    exact hp _ _ _ _ _ _ _ _ _ _ _ _ R
theorem yw_ovS9 (h1 : rows ≤ 10) (h2 : cols ≤ 25) (h3 : pn ≤ 31) (bg : rl_G rows cols pn f_top f_left a_grid a_painted) (hr : r < rows) (hc : c < cols) (hs : x3 = 43 ∨ x3 = 45) (hh : ¬ (a_grid (r * cols + c) = 43 ∨ a_grid (r * cols + c) = 45)) (h9 : ∀ wl wo le w h b fi pA pB y x, post 9 (nI rows, nI cols, f_room, f_entryLen, f_readingLen, nI pn, f_top, f_left, wl, a_entry, a_reading, a_painted, wo, le, w, h, b, fi, pA, pB, y, x)) : wpY_overwrite post (nI rows, nI cols, f_room, f_entryLen, f_readingLen, nI pn, f_top, f_left, f_workLen, a_entry, a_reading, a_painted, a_work, a_len, a_w, a_h, a_b, a_first, a_padA, a_padB, a_y, a_x) (nI r) (nI c) x3 := by
  have K51 : wY_overwrite_51 post (nI r) (nI c) x3 0 (nI rows) (nI cols) f_room f_entryLen f_readingLen (nI pn) f_top f_left f_workLen a_entry a_reading a_painted a_work a_len a_w a_h a_b a_first a_padA a_padB a_y a_x := by
    refine yw_cellR h1 h2 h3 bg hr hc ?_
    intro wl wo le w h b fi pA pB y x
    exact br_t rfl (br_t rfl (br_f (fun z => hh (Or.inl z)) (br_f (fun z => hh (Or.inr z)) (h9 _ _ _ _ _ _ _ _ _ _ _))))
  have K : wY_overwrite_28 post (nI r) (nI c) x3 (nI rows) (nI cols) f_room f_entryLen f_readingLen (nI pn) f_top f_left f_workLen a_entry a_reading a_painted a_work a_len a_w a_h a_b a_first a_padA a_padB a_y a_x := br_t rfl (br_c (fun _ => K51) (fun a => br_c (fun _ => K51) (fun b => (hs.elim a b).elim)))
  unfold wpY_overwrite
  refine yw_outside (by omega) (by omega) hr hc ?_
  refine br_t rfl (br_c (fun _ => K) (fun a => br_c (fun _ => K) (fun b => ?_)))
  exfalso
  rcases hs with z | z
  · rw [z] at a; exact a (by decide)
  · rw [z] at a; exact a (by decide)
theorem yw_ovS (h1 : rows ≤ 10) (h2 : cols ≤ 25) (h3 : pn ≤ 31) (bg : rl_G rows cols pn f_top f_left a_grid a_painted) (hr : r < rows) (hc : c < cols) (hs : x3 = 43 ∨ x3 = 45) (hh : a_grid (r * cols + c) = 43 ∨ a_grid (r * cols + c) = 45) (hp : ∀ wl wo le w h b fi pA pB y x pa, rl_G rows cols pn f_top f_left (upd a_grid (r * cols + c) x3) pa → post 0 (nI rows, nI cols, f_room, f_entryLen, f_readingLen, nI pn, f_top, f_left, wl, a_entry, a_reading, pa, wo, le, w, h, b, fi, pA, pB, y, x)) : wpY_overwrite post (nI rows, nI cols, f_room, f_entryLen, f_readingLen, nI pn, f_top, f_left, f_workLen, a_entry, a_reading, a_painted, a_work, a_len, a_w, a_h, a_b, a_first, a_padA, a_padB, a_y, a_x) (nI r) (nI c) x3 := by
  have K51 : wY_overwrite_51 post (nI r) (nI c) x3 0 (nI rows) (nI cols) f_room f_entryLen f_readingLen (nI pn) f_top f_left f_workLen a_entry a_reading a_painted a_work a_len a_w a_h a_b a_first a_padA a_padB a_y a_x := by
    refine yw_cellR h1 h2 h3 bg hr hc ?_
    intro wl wo le w h b fi pA pB y x
    have K103 : wY_overwrite_103 post (nI r) (nI c) x3 0 (nI rows) (nI cols) f_room f_entryLen f_readingLen (nI pn) f_top f_left wl a_entry a_reading a_painted wo le w h b fi pA pB y x := by
      rcases hs with z | z
      · refine yw_ov103 (v := 10) h1 h2 h3 bg hr hc (by omega) (Or.inr ⟨Or.inl ⟨rfl, z⟩, rfl, hh⟩) ?_
        intro wl wo le w h b fi pA pB y x pa R
        exact hp _ _ _ _ _ _ _ _ _ _ _ _ R
      · refine yw_ov103 (v := 11) h1 h2 h3 bg hr hc (by omega) (Or.inr ⟨Or.inr ⟨rfl, z⟩, rfl, hh⟩) ?_
        intro wl wo le w h b fi pA pB y x pa R
        exact hp _ _ _ _ _ _ _ _ _ _ _ _ R
    exact br_t rfl (br_t rfl (br_c (fun _ => K103) (fun a => br_c (fun _ => K103) (fun b => (hh.elim a b).elim))))
  have K : wY_overwrite_28 post (nI r) (nI c) x3 (nI rows) (nI cols) f_room f_entryLen f_readingLen (nI pn) f_top f_left f_workLen a_entry a_reading a_painted a_work a_len a_w a_h a_b a_first a_padA a_padB a_y a_x := br_t rfl (br_c (fun _ => K51) (fun a => br_c (fun _ => K51) (fun b => (hs.elim a b).elim)))
  unfold wpY_overwrite
  refine yw_outside (by omega) (by omega) hr hc ?_
  refine br_t rfl (br_c (fun _ => K) (fun a => br_c (fun _ => K) (fun b => ?_)))
  exfalso
  rcases hs with z | z
  · rw [z] at a; exact a (by decide)
  · rw [z] at a; exact a (by decide)
end
theorem i_vc_overwrite {k : Nat} {u : SX} {v : SY} (I : i_Rel k u v) (hk : k + 4 ≤ 2051) (v1 : Int32) (v2 : Int32) (v3 : Int32) : wpX_overwrite (fun r u' => wpY_overwrite (fun r' v' => r' = r ∧ i_Rel (k + 4) u' v') v v1 v2 v3) u v1 v2 v3 := by
  refine rl_el (P := fun u v => wpX_overwrite (fun r u' => wpY_overwrite (fun r' v' => r' = r ∧ i_Rel (k + 4) u' v') v v1 v2 v3) u v1 v2 v3) I ?_
  intro rows cols room n m pn t f_seenCount f_taskCount f_curTop f_curLeft f_curBottom f_curRight a_entry a_boxStart a_boxW a_boxH a_boxB a_posRow a_posCol a_grid a_readList a_seenToken a_seenTop a_seenLeft a_seenBottom a_seenRight a_taskKind a_taskTop a_taskLeft a_taskBottom a_taskRight g_top g_left g_workLen b_entry b_reading b_painted b_work b_len b_w b_h b_b b_first b_padA b_padB b_y b_x F
  obtain ⟨⟨b1, b2, b3, b4, b5, b6, b7, b8, b9⟩, wf, ok, be, br, bg⟩ := F
  have J : i_Rel (k + 4) (nI rows, nI cols, nI room, nI n, nI (fo_opn t n), nI m, f_seenCount, f_taskCount, f_curTop, f_curLeft, f_curBottom, f_curRight, a_entry, a_boxStart, a_boxW, a_boxH, a_boxB, a_posRow, a_posCol, a_grid, a_readList, a_seenToken, a_seenTop, a_seenLeft, a_seenBottom, a_seenRight, a_taskKind, a_taskTop, a_taskLeft, a_taskBottom, a_taskRight) (nI rows, nI cols, nI room, nI n, nI m, nI pn, g_top, g_left, g_workLen, b_entry, b_reading, b_painted, b_work, b_len, b_w, b_h, b_b, b_first, b_padA, b_padB, b_y, b_x) := rl_in ⟨⟨b1, b2, b3, b4, b5, b6, b7, b8, b9⟩, wf, ok, be, br, bg⟩
  by_cases q : ∃ r c : Nat, r < rows ∧ c < cols ∧ v1 = nI r ∧ v2 = nI c
  · obtain ⟨r, c, hr, hc, rfl, rfl⟩ := q
    have h3 : pn ≤ 31 := by omega
    unfold wpX_overwrite
    refine xw_onGrid b2 b4 hr hc ?_
    refine br_f (by decide) ?_
    by_cases d : ¬ v3 < 48 ∧ ¬ 57 < v3
    · refine xw_isDig1 d ?_
      refine br_f (by decide) ?_
      refine xw_cell b2 b4 hr hc ?_
      refine br_f (by decide) ?_
      by_cases hh : ¬ a_grid (r * cols + c) < 48 ∧ ¬ 57 < a_grid (r * cols + c)
      · refine xw_isDig1 hh ?_
        refine br_f (by decide) ?_
        refine xw_put b2 b4 hr hc ?_
        obtain ⟨q, hq, e⟩ := nI_of2 (M := 57) (n := 57) rfl (x := v3) (fun z => d.1 (Int32.lt_trans z (by decide))) (Int32.not_lt.mp d.2)
        have q48 : 48 ≤ q := by
          by_cases z : 48 ≤ q
          · exact z
          · exact absurd (by rw [e]; exact nI_lt (b := 48) (by omega) (by omega)) d.1
        refine yw_ovD b2 b4 h3 bg hr hc (v := q - 48) (by omega) (by rw [e]; exact congrArg nI (by omega)) d hh ?_
        intro wl wo le w h b fi pA pB y x pa R
        exact ⟨rfl, rl_in ⟨⟨b1, b2, b3, b4, b5, b6, b7, b8, b9⟩, wf, ok, be, br, R⟩⟩
      · refine xw_isDig0 hh ?_
        refine br_t rfl ?_
        refine yw_ovD9 b2 b4 h3 bg hr hc d hh ?_
        intro wl wo le w h b fi pA pB y x
        exact ⟨rfl, rl_in ⟨⟨b1, b2, b3, b4, b5, b6, b7, b8, b9⟩, wf, ok, be, br, bg⟩⟩
    · refine xw_isDig0 d ?_
      refine br_t rfl ?_
      by_cases s : v3 = 43 ∨ v3 = 45
      · refine xw_isSig1 s ?_
        refine br_f (by decide) ?_
        refine xw_cell b2 b4 hr hc ?_
        refine br_t rfl ?_
        by_cases hh : a_grid (r * cols + c) = 43 ∨ a_grid (r * cols + c) = 45
        · refine xw_isSig1 hh ?_
          refine br_f (by decide) ?_
          refine xw_put b2 b4 hr hc ?_
          refine yw_ovS b2 b4 h3 bg hr hc s hh ?_
          intro wl wo le w h b fi pA pB y x pa R
          exact ⟨rfl, rl_in ⟨⟨b1, b2, b3, b4, b5, b6, b7, b8, b9⟩, wf, ok, be, br, R⟩⟩
        · refine xw_isSig0 hh ?_
          refine br_t rfl ?_
          refine yw_ovS9 b2 b4 h3 bg hr hc s hh ?_
          intro wl wo le w h b fi pA pB y x
          exact ⟨rfl, rl_in ⟨⟨b1, b2, b3, b4, b5, b6, b7, b8, b9⟩, wf, ok, be, br, bg⟩⟩
      · refine xw_isSig0 s ?_
        refine br_t rfl ?_
        exact yw_ovB b2 b4 h3 bg hr hc d s ⟨rfl, J⟩
  · unfold wpX_overwrite
    refine xw_offGrid b2 b4 q ?_
    refine br_t rfl ?_
    unfold wpY_overwrite
    refine yw_outside1 (by omega) (by omega) q ?_
    exact br_f (by decide) ⟨rfl, J⟩
end
section
/-! the owed statements: read, lift -/
theorem li_st {k l : Nat} (h : l ≤ k + 1) : nI k - nI l + 1 = nI (k + 1 - l) := by
  rw [← pk_sub h, ← nI_1]
  grind
section
variable {f_rows f_cols f_room f_entryCount f_open f_readCount f_seenCount f_taskCount f_curTop f_curLeft f_curBottom f_curRight : Int32} {a_entry a_boxStart a_boxW a_boxH a_boxB a_posRow a_posCol a_grid a_readList a_seenToken a_seenTop a_seenLeft a_seenBottom a_seenRight a_taskKind a_taskTop a_taskLeft a_taskBottom a_taskRight : Nat → Int32}
theorem xw_rd_l {post : Int32 → SX → Prop} {q : Nat} (hq : q ≤ 31) (hp : ∀ rl, (∀ j, j < q → rl j = a_seenToken j) → post (nI q) (f_rows, f_cols, f_room, f_entryCount, f_open, nI q, nI q, f_taskCount, f_curTop, f_curLeft, f_curBottom, f_curRight, a_entry, a_boxStart, a_boxW, a_boxH, a_boxB, a_posRow, a_posCol, a_grid, rl, a_seenToken, a_seenTop, a_seenLeft, a_seenBottom, a_seenRight, a_taskKind, a_taskTop, a_taskLeft, a_taskBottom, a_taskRight)) :
    ∀ d i rl, i + d = q → (∀ j, j < i → rl j = a_seenToken j) → wX_read_6 post f_rows f_cols f_room f_entryCount f_open f_readCount (nI q) f_taskCount f_curTop f_curLeft f_curBottom f_curRight (d + 1) (nI i) a_entry a_boxStart a_boxW a_boxH a_boxB a_posRow a_posCol a_grid rl a_seenToken a_seenTop a_seenLeft a_seenBottom a_seenRight a_taskKind a_taskTop a_taskLeft a_taskBottom a_taskRight := by
  intro d
  induction d with
  | zero =>
    intro i rl hi h
    have e : i = q := by omega
    subst e
    exact br_t (nI_le (Nat.le_refl _) (by omega)) (hp rl h)
  | succ d ih =>
    intro i rl hi h
    have ni : vp_in (nI i) 31 := pk_in i 31 (by omega)
    refine br_f (nI_ge (by omega) (by omega)) ⟨ni, ni, nm_r (e' := upd rl i (a_seenToken i)) (by rw [nI_clamp (by omega)]) (nm_r (nI_1 i) (ih (i + 1) _ (by omega) ?_))⟩
    intro j hj
    by_cases e : j = i
    · rw [e, pk_us]
    · rw [pk_un e]; exact h j (by omega)
/-- the tokens of a subformula go to the entry list -/
theorem xw_lf_l {post : Int32 → SX → Prop} {t' : Nat → Nat} {k s l : Nat} (hk : k < 31) (hl : s + l = k + 1) (wf : fo_WF t' l) (he : ∀ j, j < l → a_seenToken (s + j) = nI (t' j))
    (hp : ∀ e1 e2 e3 e4 e5, en_ok t' l e1 e2 e3 e4 e5 → post 0 (f_rows, f_cols, f_room, nI l, nI (fo_opn t' l), f_readCount, f_seenCount, f_taskCount, f_curTop, f_curLeft, f_curBottom, f_curRight, e1, e2, e3, e4, e5, a_posRow, a_posCol, a_grid, a_readList, a_seenToken, a_seenTop, a_seenLeft, a_seenBottom, a_seenRight, a_taskKind, a_taskTop, a_taskLeft, a_taskBottom, a_taskRight)) :
    ∀ d j e1 e2 e3 e4 e5, j + d = l → en_ok t' j e1 e2 e3 e4 e5 → wX_lift_45 post (nI k) (d + 1) (nI (s + j)) f_rows f_cols f_room (nI j) (nI (fo_opn t' j)) f_readCount f_seenCount f_taskCount f_curTop f_curLeft f_curBottom f_curRight e1 e2 e3 e4 e5 a_posRow a_posCol a_grid a_readList a_seenToken a_seenTop a_seenLeft a_seenBottom a_seenRight a_taskKind a_taskTop a_taskLeft a_taskBottom a_taskRight := by
  intro d
  induction d with
  | zero =>
    intro j e1 e2 e3 e4 e5 hj ok
    have e : j = l := by omega
    subst e
    exact br_t (nI_lt (by omega) (by omega)) (hp _ _ _ _ _ ok)
  | succ d ih =>
    intro j e1 e2 e3 e4 e5 hj ok
    refine br_f (nI_nlt (by omega) (by omega)) ⟨pk_in (s + j) 31 (by omega), ?_⟩
    rw [nI_clamp (by omega), he j (by omega)]
    refine xw_append (fo_WF_le wf (by omega)) (by omega) ok ?_
    exact nm_r (nI_1 (s + j)) (ih (j + 1) _ _ _ _ _ (by omega) (en_ok_s ok))
end
section
variable {f_rows f_cols f_room f_entryLen f_readingLen f_paintedLen f_top f_left f_workLen : Int32} {a_entry a_reading a_painted a_work a_len a_w a_h a_b a_first a_padA a_padB a_y a_x : Nat → Int32}
theorem yw_rd_l {post : Int32 → SY → Prop} {q : Nat} (hq : q ≤ 31) (hp : ∀ rl, (∀ j, j < q → rl j = a_painted j) → post (nI q) (f_rows, f_cols, f_room, f_entryLen, nI q, nI q, f_top, f_left, f_workLen, a_entry, rl, a_painted, a_work, a_len, a_w, a_h, a_b, a_first, a_padA, a_padB, a_y, a_x)) :
    ∀ d i rl, i + d = q → (∀ j, j < i → rl j = a_painted j) → wY_read_2 post f_rows f_cols f_room f_entryLen f_readingLen (nI q) f_top f_left f_workLen (d + 1) (nI i) a_entry rl a_painted a_work a_len a_w a_h a_b a_first a_padA a_padB a_y a_x := by
  intro d
  induction d with
  | zero =>
    intro i rl hi h
    have e : i = q := by omega
    subst e
    exact br_t (nI_le (Nat.le_refl _) (by omega)) (hp rl h)
  | succ d ih =>
    intro i rl hi h
    have ni : vp_in (nI i) 31 := pk_in i 31 (by omega)
    refine br_f (nI_ge (by omega) (by omega)) ⟨ni, ni, nm_r (e' := upd rl i (a_painted i)) (by rw [nI_clamp (by omega)]) (nm_r (nI_1 i) (ih (i + 1) _ (by omega) ?_))⟩
    intro j hj
    by_cases e : j = i
    · rw [e, pk_us]
    · rw [pk_un e]; exact h j (by omega)
theorem yw_read {post : Int32 → SY → Prop} {q : Nat} (hq : q ≤ 31) (hp : ∀ rl, (∀ j, j < q → rl j = a_painted j) → post (nI q) (f_rows, f_cols, f_room, f_entryLen, nI q, nI q, f_top, f_left, f_workLen, a_entry, rl, a_painted, a_work, a_len, a_w, a_h, a_b, a_first, a_padA, a_padB, a_y, a_x)) : wpY_read post (f_rows, f_cols, f_room, f_entryLen, f_readingLen, nI q, f_top, f_left, f_workLen, a_entry, a_reading, a_painted, a_work, a_len, a_w, a_h, a_b, a_first, a_padA, a_padB, a_y, a_x) :=
  ⟨q + 1, yw_rd_l hq hp q 0 a_reading (by omega) (fun j hj => absurd hj (by omega))⟩
theorem yw_lf_l {post : Int32 → SY → Prop} {t' : Nat → Nat} {k s l : Nat} (hk : k < 31) (hl : s + l = k + 1) (he : ∀ j, j < l → a_painted (s + j) = nI (t' j))
    (hp : ∀ e1, (∀ j, j < l → e1 j = nI (t' j)) → post 0 (f_rows, f_cols, f_room, nI l, f_readingLen, f_paintedLen, f_top, f_left, f_workLen, e1, a_reading, a_painted, a_work, a_len, a_w, a_h, a_b, a_first, a_padA, a_padB, a_y, a_x)) :
    ∀ d j e1, j + d = l → (∀ i, i < j → e1 i = nI (t' i)) → wY_lift_47 post (nI k) f_rows f_cols f_room f_readingLen f_paintedLen f_top f_left f_workLen (d + 1) (nI (s + j)) (nI j) e1 a_reading a_painted a_work a_len a_w a_h a_b a_first a_padA a_padB a_y a_x := by
  intro d
  induction d with
  | zero =>
    intro j e1 hj ok
    have e : j = l := by omega
    subst e
    exact br_t (nI_lt (by omega) (by omega)) (hp _ ok)
  | succ d ih =>
    intro j e1 hj ok
    refine br_f (nI_nlt (by omega) (by omega)) ⟨pk_in (s + j) 31 (by omega), pk_in j 31 (by omega), nm_r (e' := upd e1 j (nI (t' j))) (by rw [nI_clamp (by omega), nI_clamp (by omega), he j (by omega)]) (nm_r (nI_1 j) (nm_r (nI_1 (s + j)) (ih (j + 1) _ (by omega) ?_)))⟩
    intro i hi
    by_cases e : i = j
    · rw [e, pk_us]
    · rw [pk_un e]; exact ok i (by omega)
end
theorem i_vc_read {k : Nat} {u : SX} {v : SY} (I : i_Rel k u v) (hk : k + 4 ≤ 2051) : wpX_read (fun r u' => wpY_read (fun r' v' => r' = r ∧ i_Rel (k + 4) u' v') v) u := by
  refine rl_el (P := fun u v => wpX_read (fun r u' => wpY_read (fun r' v' => r' = r ∧ i_Rel (k + 4) u' v') v) u) I ?_
  intro rows cols room n m pn t f_seenCount f_taskCount f_curTop f_curLeft f_curBottom f_curRight a_entry a_boxStart a_boxW a_boxH a_boxB a_posRow a_posCol a_grid a_readList a_seenToken a_seenTop a_seenLeft a_seenBottom a_seenRight a_taskKind a_taskTop a_taskLeft a_taskBottom a_taskRight g_top g_left g_workLen b_entry b_reading b_painted b_work b_len b_w b_h b_b b_first b_padA b_padB b_y b_x F
  obtain ⟨⟨b1, b2, b3, b4, b5, b6, b7, b8, b9⟩, wf, ok, be, br, bg⟩ := F
  unfold wpX_read
  have bg' := bg
  rcases bg with ⟨p0, hb⟩ | ⟨p0, p, tp, lf, e1, e2, wfp, hL, fr, fc, hpa, gd⟩
  · subst p0
    refine xw_recog0 b2 b4 (by omega) (by omega) hb ?_
    intro d1 d2 d3 d4 u1 u2 u3 u4 u5 l1 l2 l3 l4 l5
    refine ⟨0 + 1, xw_rd_l (q := 0) (by omega) ?_ 0 0 a_readList (by omega) (fun j hj => absurd hj (by omega))⟩
    intro rl _
    refine yw_read (by omega) ?_
    intro rl2 _
    exact ⟨rfl, rl_in (m := 0) ⟨⟨b1, b2, b3, b4, b5, b6, b7, by omega, b9⟩, wf, ok, be, fun j hj => absurd hj (by omega), bg'⟩⟩
  · subst e1 e2
    obtain ⟨yy, xx, hy, hx, pl, hb⟩ := fo_places wfp p0 hL fr fc
    refine xw_recognise b2 b4 wfp (by omega) p0 hL pl hy hx fr fc gd ?_
    intro d1 d2 d3 d4 u1 u2 u3 u4 u5 l1 l2 l3 l4 l5 sn
    refine ⟨pn + 1, xw_rd_l (q := pn) (by omega) ?_ pn 0 a_readList (by omega) (fun j hj => absurd hj (by omega))⟩
    intro rl hrl
    refine yw_read (by omega) ?_
    intro rl2 hrl2
    refine ⟨rfl, rl_in (m := pn) ⟨⟨b1, b2, b3, b4, b5, b6, b7, by omega, b9⟩, wf, ok, be, fun j hj => ?_, bg'⟩⟩
    rw [hrl j hj, hrl2 j hj, hpa j hj, (sn j hj).1]
theorem i_vc_lift {k : Nat} {u : SX} {v : SY} (I : i_Rel k u v) (hk : k + 4 ≤ 2051) (v1 : Int32) (v2 : Int32) : wpX_lift (fun r u' => wpY_lift (fun r' v' => r' = r ∧ i_Rel (k + 4) u' v') v v1 v2) u v1 v2 := by
  refine rl_el (P := fun u v => wpX_lift (fun r u' => wpY_lift (fun r' v' => r' = r ∧ i_Rel (k + 4) u' v') v v1 v2) u v1 v2) I ?_
  intro rows cols room n m pn t f_seenCount f_taskCount f_curTop f_curLeft f_curBottom f_curRight a_entry a_boxStart a_boxW a_boxH a_boxB a_posRow a_posCol a_grid a_readList a_seenToken a_seenTop a_seenLeft a_seenBottom a_seenRight a_taskKind a_taskTop a_taskLeft a_taskBottom a_taskRight g_top g_left g_workLen b_entry b_reading b_painted b_work b_len b_w b_h b_b b_first b_padA b_padB b_y b_x F
  obtain ⟨⟨b1, b2, b3, b4, b5, b6, b7, b8, b9⟩, wf, ok, be, br, bg⟩ := F
  have J : i_Rel (k + 4) (nI rows, nI cols, nI room, nI n, nI (fo_opn t n), nI m, f_seenCount, f_taskCount, f_curTop, f_curLeft, f_curBottom, f_curRight, a_entry, a_boxStart, a_boxW, a_boxH, a_boxB, a_posRow, a_posCol, a_grid, a_readList, a_seenToken, a_seenTop, a_seenLeft, a_seenBottom, a_seenRight, a_taskKind, a_taskTop, a_taskLeft, a_taskBottom, a_taskRight) (nI rows, nI cols, nI room, nI n, nI m, nI pn, g_top, g_left, g_workLen, b_entry, b_reading, b_painted, b_work, b_len, b_w, b_h, b_b, b_first, b_padA, b_padB, b_y, b_x) := rl_in ⟨⟨b1, b2, b3, b4, b5, b6, b7, b8, b9⟩, wf, ok, be, br, bg⟩
  have bg' := bg
  by_cases q : ∃ r c : Nat, r < rows ∧ c < cols ∧ v1 = nI r ∧ v2 = nI c
  · obtain ⟨r, c, hr, hc, rfl, rfl⟩ := q
    unfold wpX_lift
    refine xw_onGrid b2 b4 hr hc ?_
    refine br_f (by decide) ?_
    rcases bg with ⟨p0, hb⟩ | ⟨p0, p, tp, lf, e1, e2, wfp, hL, fr, fc, hpa, gd⟩
    · subst p0
      refine xw_recog0 b2 b4 (by omega) (by omega) hb ?_
      intro d1 d2 d3 d4 u1 u2 u3 u4 u5 l1 l2 l3 l4 l5
      refine xw_innermost (n := 0) (t := fun _ => 0) (yy := fun _ => 0) (xx := fun _ => 0) (by omega) (by omega) (by omega) (fun j hj => absurd hj (by omega)) (fun j hj => absurd hj (by omega)) ?_ (fun j hj => absurd hj (by omega))
      intro _
      refine br_f (by decide) ?_
      unfold wpY_lift
      refine yw_outside (by omega) (by omega) hr hc ?_
      refine br_t rfl ?_
      refine yw_inn0 ?_
      intro wl wo le w h b fi pA pB y x
      exact br_f (by decide) ⟨rfl, rl_in ⟨⟨b1, b2, b3, b4, b5, b6, b7, b8, b9⟩, wf, ok, be, br, bg'⟩⟩
    · subst e1 e2
      obtain ⟨yy, xx, hy, hx, pl, hb⟩ := fo_places wfp p0 hL fr fc
      have hb' : ∀ j, j < pn → yy j + fo_H p j ≤ 1000 ∧ xx j + fo_W p j ≤ 1000 := fun j hj => by have := hb j hj; omega
      refine xw_recognise b2 b4 wfp (by omega) p0 hL pl hy hx fr fc gd ?_
      intro d1 d2 d3 d4 u1 u2 u3 u4 u5 l1 l2 l3 l4 l5 sn
      refine xw_innermost (by omega) (by omega) (by omega) (fun j hj => ?_) sn ?_ ?_
      · have a1 := hb j hj
        have a2 := fo_sz wfp j hj
        omega
      · intro no
        refine br_f (by decide) ?_
        unfold wpY_lift
        refine yw_outside (by omega) (by omega) hr hc ?_
        refine br_t rfl ?_
        refine yw_inn wfp (by omega) p0 hL hpa pl hy hx hb' (by omega) (by omega) ?_ ?_
        · intro _ wo le w h b fi pA pB y x
          exact br_f (by decide) ⟨rfl, rl_in ⟨⟨b1, b2, b3, b4, b5, b6, b7, b8, b9⟩, wf, ok, be, br, bg'⟩⟩
        · intro kk k1 k2
          exact absurd k2 (no kk k1)
      · intro kk k1 k2 k3
        have ll := fo_L_le wfp kk k1
        have lp := fo_L_pos p kk
        refine br_t (nI_pos' (by omega)) ?_
        refine xw_seenStart wfp (by omega) (fun j hj => (sn j hj).1) k1 ?_
        obtain ⟨t', ht'⟩ : ∃ t' : Nat → Nat, ∀ j, t' j = p (kk + 1 - fo_L p kk + j) := ⟨fun j => p (kk + 1 - fo_L p kk + j), fun j => rfl⟩
        have wf' := fo_shift_WF wfp k1 (t' := t') (fun j _ => ht' j)
        refine ⟨fo_L p kk + 1, ?_⟩
        refine xw_lf_l (t' := t') (s := kk + 1 - fo_L p kk) (l := fo_L p kk) (by omega) (by omega) wf' (fun j hj => ?_) ?_ (fo_L p kk) 0 a_entry a_boxStart a_boxW a_boxH a_boxB (by omega) (fun j hj => absurd hj (by omega))
        · rw [ht' j]; exact (sn _ (by omega)).1
        · intro e1 e2 e3 e4 e5 ok'
          unfold wpY_lift
          refine yw_outside (by omega) (by omega) hr hc ?_
          refine br_t rfl ?_
          refine yw_inn wfp (by omega) p0 hL hpa pl hy hx hb' (by omega) (by omega) ?_ ?_
          · intro no
            exact absurd k2 (no kk k1)
          · intro kk' k1' k2' k3' wo le w h b fi pA pB y x ms _
            have e : kk' = kk := by
              by_cases z : kk' < kk
              · exact absurd k2' (k3 kk' z)
              · by_cases z2 : kk < kk'
                · exact absurd k2 (k3' kk z2)
                · omega
            subst e
            refine br_t (nI_pos' (by omega)) ⟨pk_in kk' 31 (by omega), nm_r (e' := nI (kk' + 1 - fo_L p kk')) (by rw [nI_clamp (by omega), (ms kk' k1).1.2.1, li_st ll]) ?_⟩
            refine ⟨fo_L p kk' + 1, ?_⟩
            refine yw_lf_l (t' := t') (s := kk' + 1 - fo_L p kk') (l := fo_L p kk') (by omega) (by omega) (fun j hj => ?_) ?_ (fo_L p kk') 0 b_entry (by omega) (fun j hj => absurd hj (by omega))
            · rw [ht' j]; exact hpa _ (by omega)
            · intro ee hee
              exact ⟨rfl, rl_in (n := fo_L p kk') (t := t') ⟨⟨b1, b2, b3, b4, b5, b6, by omega, b8, b9⟩, wf', ok', hee, br, bg'⟩⟩
  · unfold wpX_lift
    refine xw_offGrid b2 b4 q ?_
    refine br_t rfl ?_
    unfold wpY_lift
    refine yw_outside1 (by omega) (by omega) q ?_
    exact br_f (by decide) ⟨rfl, J⟩
end
