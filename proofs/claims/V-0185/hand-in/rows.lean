section
theorem pk_us {f : Nat → Int32} {k : Nat} {x : Int32} : upd f k x k = x := if_pos rfl
theorem pk_un {f : Nat → Int32} {k j : Nat} {x : Int32} (h : j ≠ k) : upd f k x j = f j := if_neg h
theorem pk_sub {a b : Nat} (h : b ≤ a) : nI a - nI b = nI (a - b) := by
  obtain ⟨c, rfl⟩ : ∃ c, a = c + b := ⟨a - b, by omega⟩
  rw [← nI_add, Int32.add_sub_cancel, Nat.add_sub_cancel]
theorem pk_m1 (n : Nat) : nI (n + 1) + (-1) = nI n := by
  rw [← nI_1, Int32.add_assoc, show (1 : Int32) + (-1) = 0 from rfl, Int32.add_zero]
theorem pk_mul (a b : Nat) : nI a * nI b = nI (a * b) := (Int32.ofNat_mul a b).symm
theorem pk_div {a d : Nat} (ha : a < 2 ^ 31) (h0 : 0 < d) (hd : d < 2 ^ 31) : nI a / nI d = nI (a / d) := by
  apply Int32.toInt_inj.mp
  rw [lg_idiv_nonneg (by rw [nI_toInt ha]; omega) (by rw [nI_toInt hd]; omega), nI_toInt ha, nI_toInt hd, nI_toInt (Nat.lt_of_le_of_lt (Nat.div_le_self a d) ha)]
  first | rfl | exact (Int.natCast_ediv _ _).symm
theorem pk_rem {a d : Nat} (ha : a < 2 ^ 31) (h0 : 0 < d) (hd : d < 2 ^ 31) : nI a - nI a / nI d * nI d = nI (a % d) := by
  rw [pk_div ha h0 hd, pk_mul, pk_sub (Nat.div_mul_le_self a d)]
  exact congrArg nI (by have := Nat.div_add_mod' a d; omega)
theorem pk_ix (x : Int32) {n : Nat} (hn : n < 2 ^ 31) : x < 0 ∨ nI n ≤ x ∨ ∃ j : Nat, j < n ∧ x = nI j := by
  by_cases h : x < 0
  · exact Or.inl h
  · obtain ⟨j, hj, rfl⟩ := nI_of h
    by_cases h2 : j < n
    · exact Or.inr (Or.inr ⟨j, h2, rfl⟩)
    · exact Or.inr (Or.inl (nI_le (by omega) hj))
theorem pk_le {x y : Int32} {A B : Prop} (a b : Nat) (f : a ≤ b → A) (g : b < a → B) (hx : x = nI a := by rfl) (hy : y = nI b := by rfl) (ha : a < 2 ^ 31 := by omega) (hb : b < 2 ^ 31 := by omega) : (x ≤ y → A) ∧ (¬ x ≤ y → B) := by
  subst hx hy
  rw [nI_leI ha hb]
  exact ⟨f, fun z => g (by omega)⟩
theorem pk_lt {x y : Int32} {A B : Prop} (a b : Nat) (f : a < b → A) (g : b ≤ a → B) (hx : x = nI a := by rfl) (hy : y = nI b := by rfl) (ha : a < 2 ^ 31 := by omega) (hb : b < 2 ^ 31 := by omega) : (x < y → A) ∧ (¬ x < y → B) := by
  subst hx hy
  rw [nI_ltI ha hb]
  exact ⟨f, fun z => g (by omega)⟩
theorem pk_eq {x y : Int32} {A B : Prop} (a b : Nat) (f : a = b → A) (g : a ≠ b → B) (hx : x = nI a := by rfl) (hy : y = nI b := by rfl) (ha : a < 2 ^ 31 := by omega) (hb : b < 2 ^ 31 := by omega) : (x = y → A) ∧ (¬ x = y → B) := by
  subst hx hy
  rw [nI_eq ha hb]
  exact ⟨f, g⟩
theorem pk_in {x : Int32} (n N : Nat) (h : n < N) (hx : x = nI n := by rfl) (hN : N < 2 ^ 31 := by omega) : vp_in x N := by
  subst hx
  exact vp_in_nI h hN
theorem pk_cl {x : Int32} (n : Nat) (hx : x = nI n := by rfl) (h : n < 2 ^ 31 := by omega) : x.toNatClampNeg = n := by
  subst hx
  exact nI_clamp h
theorem pk_tn {n : Nat} (h : n < 2 ^ 32) : (nI n).toBitVec.toNat = n := Nat.mod_eq_of_lt h
theorem ek_if {c d A B : Prop} (e : c ↔ d) (f : d → A) (g : ¬ d → B) : (c → A) ∧ (¬ c → B) :=
  ⟨fun z => f (e.mp z), fun z => g (fun y => z (e.mpr y))⟩
def bt (x : Int32) (i : Nat) : Bool := x.toBitVec.getLsbD i
theorem b_ext {x y : Int32} (h : ∀ i, i < 32 → bt x i = bt y i) : x = y := Int32.toBitVec_inj.mp (BitVec.eq_of_getLsbD_eq (fun i hi => h i hi))
theorem b_or (x y : Int32) (i : Nat) : bt (x ||| y) i = (bt x i || bt y i) := by unfold bt; rw [Int32.toBitVec_or, BitVec.getLsbD_or]
theorem b_and (x y : Int32) (i : Nat) : bt (x &&& y) i = (bt x i && bt y i) := by unfold bt; rw [Int32.toBitVec_and, BitVec.getLsbD_and]
theorem b_xor (x y : Int32) (i : Nat) : bt (x ^^^ y) i = (bt x i ^^ bt y i) := by unfold bt; rw [Int32.toBitVec_xor, BitVec.getLsbD_xor]
theorem b_big {x : Int32} {i : Nat} (h : 32 ≤ i) : bt x i = false := BitVec.getLsbD_of_ge _ _ h
theorem b_255 (i : Nat) : bt 255 i = decide (i < 8) := by
  rcases Nat.lt_or_ge i 32 with h | h
  · exact (by decide +kernel : ∀ i, i < 32 → bt 255 i = decide (i < 8)) i h
  · rw [b_big h, decide_eq_false (by omega)]
theorem b_m1 : ∀ i, i < 32 → bt (-1) i = true := by decide +kernel
theorem b_0 (i : Nat) : bt 0 i = false := BitVec.getLsbD_zero
theorem s_l : ∀ n, n < 32 → ((nI n &&& 31).toBitVec.smod 32).toNat = n := by decide +kernel
theorem b_shl (n : Nat) (hn : n < 32) (x : Int32) {i : Nat} (hi : i < 32) : bt (x <<< (nI n &&& 31)) i = (decide (n ≤ i) && bt x (i - n)) := by
  unfold bt
  rw [Int32.toBitVec_shiftLeft]
  show (x.toBitVec <<< ((nI n &&& 31).toBitVec.smod 32).toNat).getLsbD i = _
  rw [s_l n hn, BitVec.getLsbD_shiftLeft]
  rcases Nat.lt_or_ge i n with h | h
  · simp [h, Nat.not_le.mpr h]
  · simp [hi, h, Nat.not_lt.mpr h]
end
section
/-! the history: records by position; who is open, how a record's transaction has ended, contents, stamps -/
/-- a record: kind, slot, page, cell, value -/
abbrev tr_R : Type := Int32 × Int32 × Int32 × Int32 × Int32
def tr_h (kd sl pg ce va : Nat → Int32) : Nat → tr_R := fun q => (kd q, sl q, pg q, ce q, va q)
noncomputable def tr_if {α : Type} (c : Prop) (a b : α) : α := @ite α c (Classical.propDecidable c) a b
theorem tr_ift {α : Type} {c : Prop} {a b : α} (h : c) : tr_if c a b = a := by unfold tr_if; exact if_pos h
theorem tr_iff {α : Type} {c : Prop} {a b : α} (h : ¬ c) : tr_if c a b = b := by unfold tr_if; exact if_neg h
theorem tr_ifc {α : Type} {c d : Prop} {a b : α} (h : c ↔ d) : tr_if c a b = tr_if d a b := by rw [propext h]
/-- the BEGIN position of the slot's transaction open after n, else 0 -/
noncomputable def tr_op (h : Nat → tr_R) (s : Int32) : Nat → Nat
  | 0 => 0
  | n + 1 => tr_if ((h (n + 1)).2.1 = s) (tr_if ((h (n + 1)).1 = 1) (n + 1) (tr_if ((h (n + 1)).1 = 4 ∨ (h (n + 1)).1 = 5) 0 (tr_op h s n))) (tr_op h s n)
/-- how the transaction of record q has ended after n -/
noncomputable def tr_ft (h : Nat → tr_R) (q : Nat) : Nat → Int32
  | 0 => 0
  | n + 1 => tr_if (tr_ft h q n = 0 ∧ q ≤ n + 1 ∧ (h (n + 1)).2.1 = (h q).2.1 ∧ ((h (n + 1)).1 = 4 ∨ (h (n + 1)).1 = 5)) (h (n + 1)).1 (tr_ft h q n)
/-- record q is a change of cell (g, c) -/
def tr_on (h : Nat → tr_R) (g c : Int32) (q : Nat) : Prop := (h q).2.2.1 = g ∧ (h q).2.2.2.1 = c
noncomputable def tr_ef (r : tr_R) (v : Int32) : Int32 := tr_if (r.1 = 2) r.2.2.2.2 (tr_if (r.1 = 3) (v + r.2.2.2.2) v)
/-- the kept changes of a cell, in order -/
noncomputable def tr_F (h : Nat → tr_R) (g c : Int32) (keep : Nat → Prop) : Nat → Int32
  | 0 => 0
  | n + 1 => tr_if (tr_on h g c (n + 1) ∧ keep (n + 1)) (tr_ef (h (n + 1)) (tr_F h g c keep n)) (tr_F h g c keep n)
/-- full and committed content of a cell after n -/
noncomputable def tr_fu (h : Nat → tr_R) (g c : Int32) (n : Nat) : Int32 := tr_F h g c (fun q => ¬ tr_ft h q n = 5) n
noncomputable def tr_co (h : Nat → tr_R) (g c : Int32) (n : Nat) : Int32 := tr_F h g c (fun q => tr_ft h q n = 4) n
/-- record q touches page g -/
def tr_tc (h : Nat → tr_R) (g : Int32) (q : Nat) : Prop := (h q).2.2.1 = g ∨ ((h q).1 = 5 ∧ ∃ r, r < q ∧ tr_op h (h q).2.1 (q - 1) < r ∧ (h r).2.1 = (h q).2.1 ∧ (h r).2.2.1 = g)
noncomputable def tr_st (h : Nat → tr_R) (g : Int32) : Nat → Nat
  | 0 => 0
  | n + 1 => tr_if (tr_tc h g (n + 1)) (n + 1) (tr_st h g n)
/-- how many of the slots below S are open after n -/
noncomputable def tr_oc (h : Nat → tr_R) (n : Nat) : Nat → Nat
  | 0 => 0
  | s + 1 => tr_oc h n s + tr_if (tr_op h (nI s) n = 0) 0 1
/-- no other open transaction has a change that hinders record q -/
def tr_lo (h : Nat → tr_R) (q : Nat) : Prop := ∀ r, 1 ≤ r → r < q → (h r).2.2.1 = (h q).2.2.1 → (h r).2.2.2.1 = (h q).2.2.2.1 → ¬ (h r).2.1 = (h q).2.1 → tr_ft h r (q - 1) = 0 → (h r).1 = 3 ∧ (h q).1 = 3
/-- record q is well formed -/
def tr_ok (P C S : Nat) (h : Nat → tr_R) (q : Nat) : Prop := (∃ s, s < S ∧ (h q).2.1 = nI s) ∧
  (((h q).1 = 1 ∧ tr_op h (h q).2.1 (q - 1) = 0 ∧ (h q).2.2.1 = -1 ∧ (h q).2.2.2.1 = -1)
  ∨ (((h q).1 = 2 ∨ (h q).1 = 3) ∧ tr_op h (h q).2.1 (q - 1) ≠ 0 ∧ (∃ g, g < P ∧ (h q).2.2.1 = nI g) ∧ (∃ c, c < C ∧ (h q).2.2.2.1 = nI c) ∧ tr_lo h q)
  ∨ (((h q).1 = 4 ∨ (h q).1 = 5) ∧ tr_op h (h q).2.1 (q - 1) ≠ 0 ∧ (h q).2.2.1 = -1 ∧ (h q).2.2.2.1 = -1))
def tr_wf (P C S : Nat) (h : Nat → tr_R) (n : Nat) : Prop := ∀ q, 1 ≤ q → q ≤ n → tr_ok P C S h q
theorem tr_m1ne {g : Nat} (hg : g < 2 ^ 31) : ¬ (-1 : Int32) = nI g := by
  intro e
  have h := nI_pos hg
  rw [← e] at h
  exact h (by decide)
/-! ### the equations -/
section
variable {h : Nat → tr_R} {s : Int32} {n q : Nat}
theorem tr_op_o (e : ¬ (h (n + 1)).2.1 = s) : tr_op h s (n + 1) = tr_op h s n := tr_iff e
theorem tr_op_b (e : (h (n + 1)).2.1 = s) (k : (h (n + 1)).1 = 1) : tr_op h s (n + 1) = n + 1 := (tr_ift e).trans (tr_ift k)
theorem tr_op_e (e : (h (n + 1)).2.1 = s) (k : (h (n + 1)).1 = 4 ∨ (h (n + 1)).1 = 5) : tr_op h s (n + 1) = 0 := by
  refine (tr_ift e).trans ((tr_iff ?_).trans (tr_ift k))
  intro z
  rcases k with k | k <;> (rw [k] at z; exact absurd z (by decide))
theorem tr_op_c (k1 : ¬ (h (n + 1)).1 = 1) (k4 : ¬ (h (n + 1)).1 = 4) (k5 : ¬ (h (n + 1)).1 = 5) : tr_op h s (n + 1) = tr_op h s n := by
  by_cases e : (h (n + 1)).2.1 = s
  · exact (tr_ift e).trans ((tr_iff k1).trans (tr_iff (fun z => z.elim k4 k5)))
  · exact tr_op_o e
theorem tr_op_le : ∀ n : Nat, tr_op h s n ≤ n
  | 0 => Nat.le_refl 0
  | n + 1 => by
    have ih := tr_op_le n
    by_cases e : (h (n + 1)).2.1 = s
    · by_cases k : (h (n + 1)).1 = 1
      · rw [tr_op_b e k]; omega
      · by_cases k2 : (h (n + 1)).1 = 4 ∨ (h (n + 1)).1 = 5
        · rw [tr_op_e e k2]; omega
        · rw [tr_op_c k (fun z => k2 (Or.inl z)) (fun z => k2 (Or.inr z))]; omega
    · rw [tr_op_o e]; omega
/-- an open transaction's first record is its BEGIN, and behind it the slot has changes alone -/
theorem tr_op_sp : ∀ n : Nat, tr_op h s n ≠ 0 → (h (tr_op h s n)).1 = 1 ∧ (h (tr_op h s n)).2.1 = s ∧ ∀ r, tr_op h s n < r → r ≤ n → (h r).2.1 = s → ¬ (h r).1 = 1 ∧ ¬ (h r).1 = 4 ∧ ¬ (h r).1 = 5
  | 0 => fun z => absurd rfl z
  | n + 1 => by
    have ih := tr_op_sp n
    intro z
    by_cases e : (h (n + 1)).2.1 = s
    · by_cases k : (h (n + 1)).1 = 1
      · rw [tr_op_b e k]
        exact ⟨k, e, fun r a b _ => absurd a (by omega)⟩
      · by_cases k2 : (h (n + 1)).1 = 4 ∨ (h (n + 1)).1 = 5
        · exact absurd (tr_op_e e k2) z
        · have k4 := fun z => k2 (Or.inl z)
          have k5 := fun z => k2 (Or.inr z)
          have E := tr_op_c (h := h) (s := s) k k4 k5
          rw [E] at z ⊢
          obtain ⟨a, b, c⟩ := ih z
          refine ⟨a, b, fun r h1 h2 h3 => ?_⟩
          by_cases hr : r = n + 1
          · subst hr; exact ⟨k, k4, k5⟩
          · exact c r h1 (by omega) h3
    · have E := tr_op_o (h := h) (s := s) e
      rw [E] at z ⊢
      obtain ⟨a, b, c⟩ := ih z
      refine ⟨a, b, fun r h1 h2 h3 => ?_⟩
      by_cases hr : r = n + 1
      · subst hr; exact absurd h3 e
      · exact c r h1 (by omega) h3
/-- a transaction open at n was open since its BEGIN -/
theorem tr_op_at : ∀ n : Nat, ∀ m, tr_op h s n ≠ 0 → tr_op h s n ≤ m → m ≤ n → tr_op h s m = tr_op h s n
  | 0 => fun m z _ _ => absurd rfl z
  | n + 1 => by
    have ih := tr_op_at n
    intro m z a b
    by_cases hm : m = n + 1
    · rw [hm]
    · by_cases e : (h (n + 1)).2.1 = s
      · by_cases k : (h (n + 1)).1 = 1
        · rw [tr_op_b e k] at a; omega
        · by_cases k2 : (h (n + 1)).1 = 4 ∨ (h (n + 1)).1 = 5
          · exact absurd (tr_op_e e k2) z
          · have E := tr_op_c (h := h) (s := s) k (fun z => k2 (Or.inl z)) (fun z => k2 (Or.inr z))
            rw [E] at z a ⊢
            exact ih m z a (by omega)
      · have E := tr_op_o (h := h) (s := s) e
        rw [E] at z a ⊢
        exact ih m z a (by omega)
theorem tr_ft_k (e : tr_ft h q n ≠ 0) : tr_ft h q (n + 1) = tr_ft h q n := tr_iff (fun z => e z.1)
theorem tr_ft_n (e : ¬ ((h (n + 1)).1 = 4 ∨ (h (n + 1)).1 = 5)) : tr_ft h q (n + 1) = tr_ft h q n := tr_iff (fun z => e z.2.2.2)
theorem tr_ft_o (e : ¬ (h (n + 1)).2.1 = (h q).2.1) : tr_ft h q (n + 1) = tr_ft h q n := tr_iff (fun z => e z.2.2.1)
theorem tr_ft_e (z : tr_ft h q n = 0) (l : q ≤ n + 1) (e : (h (n + 1)).2.1 = (h q).2.1) (k : (h (n + 1)).1 = 4 ∨ (h (n + 1)).1 = 5) : tr_ft h q (n + 1) = (h (n + 1)).1 := tr_ift ⟨z, l, e, k⟩
theorem tr_ft_lt : ∀ n : Nat, n < q → tr_ft h q n = 0
  | 0 => fun _ => rfl
  | n + 1 => fun l => (tr_iff (fun z => absurd z.2.1 (by omega))).trans (tr_ft_lt n (by omega))
theorem tr_ft_v : ∀ n : Nat, tr_ft h q n = 0 ∨ tr_ft h q n = 4 ∨ tr_ft h q n = 5
  | 0 => Or.inl rfl
  | n + 1 => by
    by_cases k : tr_ft h q n = 0 ∧ q ≤ n + 1 ∧ (h (n + 1)).2.1 = (h q).2.1 ∧ ((h (n + 1)).1 = 4 ∨ (h (n + 1)).1 = 5)
    · rw [tr_ft_e k.1 k.2.1 k.2.2.1 k.2.2.2]; exact Or.inr k.2.2.2
    · rw [show tr_ft h q (n + 1) = tr_ft h q n from tr_iff k]; exact tr_ft_v n
theorem tr_ft_mo {m : Nat} (e : tr_ft h q m ≠ 0) : ∀ d : Nat, tr_ft h q (m + d) = tr_ft h q m
  | 0 => rfl
  | d + 1 => by
    have ih := tr_ft_mo e d
    rw [← ih] at e ⊢
    exact tr_ft_k e
theorem tr_ft_up {m : Nat} (e : tr_ft h q m ≠ 0) (l : m ≤ n) : tr_ft h q n = tr_ft h q m := by
  have := tr_ft_mo e (n - m)
  rwa [show m + (n - m) = n by omega] at this
theorem tr_ft_dn {m : Nat} (e : tr_ft h q n = 0) (l : m ≤ n) : tr_ft h q m = 0 := by
  by_cases z : tr_ft h q m = 0
  · exact z
  · exact absurd ((tr_ft_up z l).symm.trans e) z
end
/-- a record is open if and only if its slot's transaction began at or before it and is open -/
theorem tr_ft_op {P C S : Nat} {h : Nat → tr_R} {q : Nat} (hq : 1 ≤ q) : ∀ n : Nat, q ≤ n → tr_wf P C S h n → (tr_ft h q n = 0 ↔ tr_op h (h q).2.1 n ≠ 0 ∧ tr_op h (h q).2.1 n ≤ q)
  | 0 => fun l => absurd l (by omega)
  | n + 1 => by
    intro l W
    have W' : tr_wf P C S h n := fun r a b => W r a (by omega)
    have O := (W (n + 1) (by omega) (by omega)).2
    rw [Nat.add_sub_cancel] at O
    by_cases hn : q = n + 1
    · subst hn
      have f0 : tr_ft h (n + 1) n = 0 := tr_ft_lt n (by omega)
      rcases O with ⟨k, _, _⟩ | ⟨k, o, _⟩ | ⟨k, _, _⟩
      · have e4 : ¬ ((h (n + 1)).1 = 4 ∨ (h (n + 1)).1 = 5) := by rw [k]; decide
        rw [tr_ft_n e4, tr_op_b rfl k]
        exact ⟨fun _ => ⟨by omega, by omega⟩, fun _ => f0⟩
      · have e4 : ¬ (h (n + 1)).1 = 4 := by rcases k with k | k <;> rw [k] <;> decide
        have e5 : ¬ (h (n + 1)).1 = 5 := by rcases k with k | k <;> rw [k] <;> decide
        have e1 : ¬ (h (n + 1)).1 = 1 := by rcases k with k | k <;> rw [k] <;> decide
        rw [tr_ft_n (fun z => z.elim e4 e5), tr_op_c e1 e4 e5]
        have := tr_op_le (h := h) (s := (h (n + 1)).2.1) n
        exact ⟨fun _ => ⟨o, by omega⟩, fun _ => f0⟩
      · rw [tr_ft_e f0 (by omega) rfl k, tr_op_e rfl k]
        refine ⟨fun z => ?_, fun z => absurd rfl z.1⟩
        rcases k with k | k <;> (rw [k] at z; exact absurd z (by decide))
    · have ih := tr_ft_op hq n (by omega) W'
      by_cases e : (h (n + 1)).2.1 = (h q).2.1
      · rcases O with ⟨k, o, _⟩ | ⟨k, o, _⟩ | ⟨k, o, _⟩
        · have e4 : ¬ ((h (n + 1)).1 = 4 ∨ (h (n + 1)).1 = 5) := by rw [k]; decide
          rw [e] at o
          rw [tr_ft_n e4, tr_op_b e k, ih, o]
          exact ⟨fun z => absurd rfl z.1, fun z => absurd z.2 (by omega)⟩
        · have e4 : ¬ (h (n + 1)).1 = 4 := by rcases k with k | k <;> rw [k] <;> decide
          have e5 : ¬ (h (n + 1)).1 = 5 := by rcases k with k | k <;> rw [k] <;> decide
          have e1 : ¬ (h (n + 1)).1 = 1 := by rcases k with k | k <;> rw [k] <;> decide
          rw [tr_ft_n (fun z => z.elim e4 e5), tr_op_c e1 e4 e5]
          exact ih
        · rw [tr_op_e e k]
          refine ⟨fun z => ?_, fun z => absurd rfl z.1⟩
          by_cases f : tr_ft h q n = 0
          · rw [tr_ft_e f (by omega) e k] at z
            rcases k with k | k <;> (rw [k] at z; exact absurd z (by decide))
          · rw [tr_ft_k f] at z; exact absurd z f
      · rw [tr_ft_o e, tr_op_o e]; exact ih
/-! ### the same history up to n gives the same -/
section
variable {h h' : Nat → tr_R} {s g c : Int32}
theorem tr_op_cg : ∀ n : Nat, (∀ q, q ≤ n → h' q = h q) → tr_op h' s n = tr_op h s n
  | 0 => fun _ => rfl
  | n + 1 => by
    intro E
    have ih := tr_op_cg n (fun q l => E q (by omega))
    show tr_if ((h' (n + 1)).2.1 = s) (tr_if ((h' (n + 1)).1 = 1) (n + 1) (tr_if ((h' (n + 1)).1 = 4 ∨ (h' (n + 1)).1 = 5) 0 (tr_op h' s n))) (tr_op h' s n) = _
    rw [E (n + 1) (by omega), ih]
    rfl
theorem tr_ft_cg {q : Nat} (hq : h' q = h q) : ∀ n : Nat, (∀ q, q ≤ n → h' q = h q) → tr_ft h' q n = tr_ft h q n
  | 0 => fun _ => rfl
  | n + 1 => by
    intro E
    have ih := tr_ft_cg hq n (fun q l => E q (by omega))
    show tr_if (tr_ft h' q n = 0 ∧ q ≤ n + 1 ∧ (h' (n + 1)).2.1 = (h' q).2.1 ∧ ((h' (n + 1)).1 = 4 ∨ (h' (n + 1)).1 = 5)) (h' (n + 1)).1 (tr_ft h' q n) = _
    rw [E (n + 1) (by omega), ih, hq]
    rfl
theorem tr_F_cg {k k' : Nat → Prop} : ∀ n : Nat, (∀ q, q ≤ n → h' q = h q) → (∀ q, 1 ≤ q → q ≤ n → tr_on h g c q → (k' q ↔ k q)) → tr_F h' g c k' n = tr_F h g c k n
  | 0 => fun _ _ => rfl
  | n + 1 => by
    intro E K
    have ih := tr_F_cg n (fun q l => E q (by omega)) (fun q a l o => K q a (by omega) o)
    have e1 := E (n + 1) (by omega)
    by_cases o : tr_on h g c (n + 1)
    · have o' : tr_on h' g c (n + 1) := by unfold tr_on; rw [e1]; exact o
      have kk := K (n + 1) (by omega) (by omega) o
      by_cases k1 : k (n + 1)
      · rw [show tr_F h g c k (n + 1) = tr_ef (h (n + 1)) (tr_F h g c k n) from tr_ift ⟨o, k1⟩,
          show tr_F h' g c k' (n + 1) = tr_ef (h' (n + 1)) (tr_F h' g c k' n) from tr_ift ⟨o', kk.mpr k1⟩, e1, ih]
      · rw [show tr_F h g c k (n + 1) = tr_F h g c k n from tr_iff (fun z => k1 z.2),
          show tr_F h' g c k' (n + 1) = tr_F h' g c k' n from tr_iff (fun z => k1 (kk.mp z.2)), ih]
    · have o' : ¬ tr_on h' g c (n + 1) := by unfold tr_on; rw [e1]; exact o
      rw [show tr_F h g c k (n + 1) = tr_F h g c k n from tr_iff (fun z => o z.1),
        show tr_F h' g c k' (n + 1) = tr_F h' g c k' n from tr_iff (fun z => o' z.1), ih]
theorem tr_F_k {k k' : Nat → Prop} (n : Nat) (K : ∀ q, 1 ≤ q → q ≤ n → tr_on h g c q → (k' q ↔ k q)) : tr_F h g c k' n = tr_F h g c k n := tr_F_cg n (fun _ _ => rfl) K
theorem tr_fu_cg (n : Nat) (E : ∀ q, q ≤ n → h' q = h q) : tr_fu h' g c n = tr_fu h g c n := by
  refine tr_F_cg n E (fun q _ l _ => ?_)
  rw [tr_ft_cg (E q l) n E]
theorem tr_co_cg (n : Nat) (E : ∀ q, q ≤ n → h' q = h q) : tr_co h' g c n = tr_co h g c n := by
  refine tr_F_cg n E (fun q _ l _ => ?_)
  rw [tr_ft_cg (E q l) n E]
theorem tr_tc_cg {q : Nat} (E : ∀ r, r ≤ q → h' r = h r) : tr_tc h' g q ↔ tr_tc h g q := by
  unfold tr_tc
  rw [E q (Nat.le_refl q), tr_op_cg (q - 1) (fun r l => E r (by omega))]
  have : (∃ r, r < q ∧ tr_op h (h q).2.1 (q - 1) < r ∧ (h' r).2.1 = (h q).2.1 ∧ (h' r).2.2.1 = g) ↔ (∃ r, r < q ∧ tr_op h (h q).2.1 (q - 1) < r ∧ (h r).2.1 = (h q).2.1 ∧ (h r).2.2.1 = g) := by
    constructor
    · rintro ⟨r, a, b, c, d⟩
      rw [E r (by omega)] at c d
      exact ⟨r, a, b, c, d⟩
    · rintro ⟨r, a, b, c, d⟩
      refine ⟨r, a, b, ?_, ?_⟩
      · rw [E r (by omega)]; exact c
      · rw [E r (by omega)]; exact d
  rw [this]
theorem tr_st_cg : ∀ n : Nat, (∀ q, q ≤ n → h' q = h q) → tr_st h' g n = tr_st h g n
  | 0 => fun _ => rfl
  | n + 1 => by
    intro E
    have ih := tr_st_cg n (fun q l => E q (by omega))
    show tr_if (tr_tc h' g (n + 1)) (n + 1) (tr_st h' g n) = _
    rw [ih, tr_ifc (tr_tc_cg E)]
    rfl
theorem tr_oc_cg {n : Nat} (E : ∀ q, q ≤ n → h' q = h q) : ∀ S : Nat, tr_oc h' n S = tr_oc h n S
  | 0 => rfl
  | S + 1 => by
    show tr_oc h' n S + tr_if (tr_op h' (nI S) n = 0) 0 1 = _
    rw [tr_oc_cg E S, tr_op_cg n E]
    rfl
theorem tr_ok_cg {P C S q : Nat} (E : ∀ r, r ≤ q → h' r = h r) (O : tr_ok P C S h q) : tr_ok P C S h' q := by
  have eq := E q (Nat.le_refl q)
  have eo : tr_op h' (h q).2.1 (q - 1) = tr_op h (h q).2.1 (q - 1) := tr_op_cg (q - 1) (fun r l => E r (by omega))
  unfold tr_ok at O ⊢
  rw [eq, eo]
  refine ⟨O.1, ?_⟩
  rcases O.2 with o | o | o
  · exact Or.inl o
  · refine Or.inr (Or.inl ⟨o.1, o.2.1, o.2.2.1, o.2.2.2.1, ?_⟩)
    intro r a b
    have er := E r (by omega)
    rw [er, eq, tr_ft_cg er (q - 1) (fun r l => E r (by omega))]
    exact o.2.2.2.2 r a b
  · exact Or.inr (Or.inr o)
theorem tr_wf_cg {P C S n : Nat} (E : ∀ r, r ≤ n → h' r = h r) (W : tr_wf P C S h n) : tr_wf P C S h' n :=
  fun q a b => tr_ok_cg (fun r l => E r (by omega)) (W q a b)
end
end
section
/-! contents under undo; stamps -/
section
variable {h : Nat → tr_R} {g c : Int32} {n : Nat}
theorem tr_F_s {k : Nat → Prop} (o : tr_on h g c (n + 1)) (e : k (n + 1)) : tr_F h g c k (n + 1) = tr_ef (h (n + 1)) (tr_F h g c k n) := tr_ift ⟨o, e⟩
theorem tr_F_o {k : Nat → Prop} (o : ¬ tr_on h g c (n + 1)) : tr_F h g c k (n + 1) = tr_F h g c k n := tr_iff (fun z => o z.1)
theorem tr_F_n {k : Nat → Prop} (e : ¬ k (n + 1)) : tr_F h g c k (n + 1) = tr_F h g c k n := tr_iff (fun z => e z.2)
/-- behind m nothing of the cell is kept -/
theorem tr_F_cut {k : Nat → Prop} {m : Nat} : ∀ d : Nat, (∀ q, m < q → q ≤ m + d → tr_on h g c q → ¬ k q) → tr_F h g c k (m + d) = tr_F h g c k m
  | 0 => fun _ => rfl
  | d + 1 => by
    intro K
    have ih := tr_F_cut d (fun q a b o => K q a (by omega) o)
    rw [← ih]
    by_cases o : tr_on h g c (m + d + 1)
    · exact tr_F_n (K (m + d + 1) (by omega) (by omega) o)
    · exact tr_F_o o
theorem tr_ef2 {r : tr_R} {v : Int32} (k : r.1 = 2) : tr_ef r v = r.2.2.2.2 := tr_ift k
theorem tr_ef3 {r : tr_R} {v : Int32} (k : r.1 = 3) : tr_ef r v = v + r.2.2.2.2 := (tr_iff (by rw [k]; decide)).trans (tr_ift k)
/-- one ADD less, behind which only ADDs are kept -/
theorem tr_F_sub {k k' : Nat → Prop} {m : Nat} (o : tr_on h g c (m + 1)) (k3 : (h (m + 1)).1 = 3) (a : k (m + 1)) (b : ¬ k' (m + 1))
    (E : ∀ q, q ≠ m + 1 → (k' q ↔ k q)) : ∀ d : Nat, (∀ q, m + 1 < q → q ≤ m + 1 + d → tr_on h g c q → k q → (h q).1 = 3) → tr_F h g c k' (m + 1 + d) = tr_F h g c k (m + 1 + d) - (h (m + 1)).2.2.2.2
  | 0 => by
    intro _
    show tr_F h g c k' (m + 1) = tr_F h g c k (m + 1) - (h (m + 1)).2.2.2.2
    rw [tr_F_n b, tr_F_s o a, tr_ef3 k3, Int32.add_sub_cancel]
    exact tr_F_k m (fun q _ l _ => E q (by omega))
  | d + 1 => by
    intro K
    have ih := tr_F_sub o k3 a b E d (fun q x y => K q x (by omega))
    show tr_F h g c k' (m + 1 + d + 1) = tr_F h g c k (m + 1 + d + 1) - (h (m + 1)).2.2.2.2
    have e := E (m + 1 + d + 1) (by omega)
    by_cases o2 : tr_on h g c (m + 1 + d + 1)
    · by_cases kk : k (m + 1 + d + 1)
      · have t := K _ (by omega) (by omega) o2 kk
        rw [tr_F_s o2 kk, tr_F_s o2 (e.mpr kk), tr_ef3 t, tr_ef3 t, ih]
        generalize tr_F h g c k (m + 1 + d) = x
        generalize (h (m + 1)).2.2.2.2 = y
        generalize (h (m + 1 + d + 1)).2.2.2.2 = z
        grind
      · rw [tr_F_n kk, tr_F_n (fun z => kk (e.mp z)), ih]
    · rw [tr_F_o o2, tr_F_o o2, ih]
end
/-- what is kept when the open records of the slots in D are away -/
def tr_kD (h : Nat → tr_R) (D : Int32 → Prop) (n : Nat) (q : Nat) : Prop := ¬ tr_ft h q n = 5 ∧ ¬ (tr_ft h q n = 0 ∧ D (h q).2.1)
/-- .. and of those in E the records behind m too -/
def tr_kE (h : Nat → tr_R) (D E : Int32 → Prop) (n m : Nat) (q : Nat) : Prop := tr_kD h D n q ∧ ¬ (m < q ∧ tr_ft h q n = 0 ∧ E (h q).2.1)
section
variable {P C S : Nat} {h : Nat → tr_R} {g c : Nat} {D E : Int32 → Prop} {n m : Nat}
/-- a record of a true cell is a change -/
theorem tr_on_k (W : tr_wf P C S h n) (hg : g < 2 ^ 31) {cc : Int32} {q : Nat} (hq : 1 ≤ q) (l : q ≤ n) (o : tr_on h (nI g) cc q) : ((h q).1 = 2 ∨ (h q).1 = 3) ∧ tr_op h (h q).2.1 (q - 1) ≠ 0 ∧ tr_lo h q := by
  rcases (W q hq l).2 with z | z | z
  · exact absurd (z.2.2.1.symm.trans o.1) (tr_m1ne hg)
  · exact ⟨z.1, z.2.1, z.2.2.2.2⟩
  · exact absurd (z.2.2.1.symm.trans o.1) (tr_m1ne hg)
theorem tr_V0 {g c : Int32} : tr_F h g c (tr_kE h D E n n) n = tr_F h g c (tr_kD h D n) n :=
  tr_F_k n (fun q _ l _ => ⟨fun z => z.1, fun z => ⟨z, fun y => absurd y.1 (by omega)⟩⟩)
theorem tr_V1 {g c : Int32} (lo : ∀ q, 1 ≤ q → q ≤ n → tr_on h g c q → tr_ft h q n = 0 → E (h q).2.1 → m < q) : tr_F h g c (tr_kE h D E n m) n = tr_F h g c (tr_kD h (fun s => D s ∨ E s) n) n := by
  refine tr_F_k n (fun q a l o => ⟨fun z => ⟨z.1.1, fun y => ?_⟩, fun z => ⟨⟨z.1, fun y => z.2 ⟨y.1, Or.inl y.2⟩⟩, fun y => z.2 ⟨y.2.1, Or.inr y.2.2⟩⟩⟩)
  rcases y.2 with d | e
  · exact z.1.2 ⟨y.1, d⟩
  · exact z.2 ⟨lo q a l o y.1 e, y.1, e⟩
/-- a record that isn't to be taken back -/
theorem tr_Vn {g c : Int32} (x : ¬ (tr_on h g c (m + 1) ∧ tr_ft h (m + 1) n = 0 ∧ E (h (m + 1)).2.1)) : tr_F h g c (tr_kE h D E n m) n = tr_F h g c (tr_kE h D E n (m + 1)) n := by
  refine tr_F_k n (fun q a l o => ⟨fun z => ⟨z.1, fun y => z.2 ⟨by omega, y.2⟩⟩, fun z => ⟨z.1, fun y => ?_⟩⟩)
  by_cases e : q = m + 1
  · subst e; exact x ⟨o, y.2⟩
  · exact z.2 ⟨by omega, y.2⟩
/-- the same slot's later records are open too -/
theorem tr_ft_sl (W : tr_wf P C S h n) {q r : Nat} (hr : 1 ≤ r) (l : r ≤ q) (lq : q ≤ n) (e : (h q).2.1 = (h r).2.1) (f : tr_ft h r n = 0) : tr_ft h q n = 0 := by
  obtain ⟨a, b⟩ := (tr_ft_op hr n (by omega) W).mp f
  exact (tr_ft_op (by omega) n lq W).mpr ⟨by rw [e]; exact a, by rw [e]; omega⟩
theorem tr_V3 (W : tr_wf P C S h n) (hg : g < 2 ^ 31) (ln : m + 1 ≤ n) (o : tr_on h (nI g) (nI c) (m + 1)) (f : tr_ft h (m + 1) n = 0) (e : E (h (m + 1)).2.1) (dj : ∀ s, E s → ¬ D s)
    (k3 : (h (m + 1)).1 = 3) : tr_F h (nI g) (nI c) (tr_kE h D E n m) n = tr_F h (nI g) (nI c) (tr_kE h D E n (m + 1)) n - (h (m + 1)).2.2.2.2 := by
  have a : tr_kE h D E n (m + 1) (m + 1) := ⟨⟨by rw [f]; decide, fun z => dj _ e z.2⟩, fun z => absurd z.1 (by omega)⟩
  have b : ¬ tr_kE h D E n m (m + 1) := fun z => z.2 ⟨by omega, f, e⟩
  have ee : ∀ q, q ≠ m + 1 → (tr_kE h D E n m q ↔ tr_kE h D E n (m + 1) q) := fun q hq => ⟨fun z => ⟨z.1, fun y => z.2 ⟨by omega, y.2⟩⟩, fun z => ⟨z.1, fun y => z.2 ⟨by omega, y.2⟩⟩⟩
  have := tr_F_sub o k3 a b ee (n - (m + 1)) (fun q x y o2 kk => by
    have hk := tr_on_k W hg (by omega) (by omega) o2
    by_cases es : (h q).2.1 = (h (m + 1)).2.1
    · exact absurd ⟨x, tr_ft_sl W (by omega) (by omega) (by omega) es f, by rw [es]; exact e⟩ kk.2
    · exact (hk.2.2 (m + 1) (by omega) x (o.1.trans o2.1.symm) (o.2.trans o2.2.symm) (fun z => es z.symm) (tr_ft_dn f (by omega))).2)
  rwa [show m + 1 + (n - (m + 1)) = n by omega] at this
theorem tr_V2 (W : tr_wf P C S h n) (hg : g < 2 ^ 31) (ln : m + 1 ≤ n) (o : tr_on h (nI g) (nI c) (m + 1)) (f : tr_ft h (m + 1) n = 0) (e : E (h (m + 1)).2.1) (dj : ∀ s, E s → ¬ D s)
    (k2 : (h (m + 1)).1 = 2) : tr_F h (nI g) (nI c) (tr_kE h D E n m) n = tr_fu h (nI g) (nI c) m := by
  have k3 : ¬ (h (m + 1)).1 = 3 := by rw [k2]; decide
  have hk0 := tr_on_k W hg (by omega) ln o
  have c1 := tr_F_cut (h := h) (g := nI g) (c := nI c) (k := tr_kE h D E n m) (m := m) (n - m) (fun q x y o2 kk => by
    by_cases es : (h q).2.1 = (h (m + 1)).2.1
    · exact kk.2 ⟨x, tr_ft_sl W (by omega) (by omega) (by omega) es f, by rw [es]; exact e⟩
    · by_cases eq : q = m + 1
      · subst eq; exact es rfl
      · have hk := tr_on_k W hg (by omega) (by omega) o2
        exact k3 (hk.2.2 (m + 1) (by omega) (by omega) (o.1.trans o2.1.symm) (o.2.trans o2.2.symm) (fun z => es z.symm) (tr_ft_dn f (by omega))).1)
  rw [show m + (n - m) = n by omega] at c1
  rw [c1]
  refine tr_F_k m (fun q a l o2 => ?_)
  by_cases z : tr_ft h q m = 0
  · have es : (h q).2.1 = (h (m + 1)).2.1 := by
      by_cases es : (h q).2.1 = (h (m + 1)).2.1
      · exact es
      · exact absurd (hk0.2.2 q a (by omega) (o2.1.trans o.1.symm) (o2.2.trans o.2.symm) es z).2 k3
    have W' : tr_wf P C S h m := fun r x y => W r x (by omega)
    obtain ⟨p1, p2⟩ := (tr_ft_op a m l W').mp z
    obtain ⟨b1, b2⟩ := (tr_ft_op (by omega) n ln W).mp f
    have b3 := (tr_op_sp n b1).1
    have b4 : tr_op h (h (m + 1)).2.1 n ≤ m := by
      by_cases w : tr_op h (h (m + 1)).2.1 n = m + 1
      · rw [w, k2] at b3; exact absurd b3 (by decide)
      · omega
    have b5 := tr_op_at n m b1 b4 (by omega)
    have fq : tr_ft h q n = 0 := (tr_ft_op a n (by omega) W).mpr (by rw [es]; rw [es, b5] at p2; exact ⟨b1, p2⟩)
    refine ⟨fun _ => by rw [z]; decide, fun _ => ⟨⟨by rw [fq]; decide, fun y => dj _ e (by rw [← es]; exact y.2)⟩, fun y => absurd y.1 (by omega)⟩⟩
  · have fq := tr_ft_up (n := n) z (by omega)
    refine ⟨fun y => by have := y.1.1; rw [fq] at this; exact this, fun y => ⟨⟨by rw [fq]; exact y, fun w => z (by rw [← fq]; exact w.1)⟩, fun w => absurd w.1 (by omega)⟩⟩
/-- nothing away: the full content; all away: the committed content -/
theorem tr_kD_0 {g c : Int32} : tr_F h g c (tr_kD h (fun _ => False) n) n = tr_fu h g c n :=
  tr_F_k n (fun q _ _ _ => ⟨fun z => z.1, fun z => ⟨z, fun y => y.2⟩⟩)
theorem tr_kD_1 {g c : Int32} (all : ∀ q, 1 ≤ q → q ≤ n → tr_on h g c q → tr_ft h q n = 0 → D (h q).2.1) : tr_F h g c (tr_kD h D n) n = tr_co h g c n := by
  refine tr_F_k n (fun q a l o => ?_)
  rcases tr_ft_v (h := h) (q := q) n with v | v | v
  · exact ⟨fun z => absurd ⟨v, all q a l o v⟩ z.2, fun z => absurd (v.symm.trans z) (by decide)⟩
  · exact ⟨fun _ => v, fun _ => ⟨by rw [v]; decide, fun z => absurd (v.symm.trans z.1) (by decide)⟩⟩
  · exact ⟨fun z => absurd v z.1, fun z => absurd (v.symm.trans z) (by decide)⟩
/-! ### the full content after one more record -/
theorem tr_fu_n {g c : Int32} (o : ¬ tr_on h g c (n + 1)) (k : ¬ (h (n + 1)).1 = 5) : tr_fu h g c (n + 1) = tr_fu h g c n := by
  unfold tr_fu
  rw [tr_F_o o]
  refine tr_F_k n (fun q a l _ => ?_)
  by_cases z : tr_ft h q n = 0
  · rcases tr_ft_v (h := h) (q := q) (n + 1) with v | v | v
    · rw [v, z]
    · rw [v, z]; decide
    · exfalso
      by_cases k4 : (h (n + 1)).1 = 4 ∨ (h (n + 1)).1 = 5
      · by_cases e : (h (n + 1)).2.1 = (h q).2.1
        · rw [tr_ft_e z (by omega) e k4] at v; exact k v
        · rw [tr_ft_o e, z] at v; exact absurd v (by decide)
      · rw [tr_ft_n k4, z] at v; exact absurd v (by decide)
  · rw [tr_ft_k z]
theorem tr_fu_c {g c : Int32} (o : tr_on h g c (n + 1)) (k : (h (n + 1)).1 = 2 ∨ (h (n + 1)).1 = 3) : tr_fu h g c (n + 1) = tr_ef (h (n + 1)) (tr_fu h g c n) := by
  have k4 : ¬ ((h (n + 1)).1 = 4 ∨ (h (n + 1)).1 = 5) := by rcases k with k | k <;> rw [k] <;> decide
  unfold tr_fu
  rw [tr_F_s o (by rw [tr_ft_n k4, tr_ft_lt n (by omega)]; decide)]
  exact congrArg _ (tr_F_k n (fun q a l _ => by rw [tr_ft_n k4]))
theorem tr_fu_a {g c : Int32} (o : ¬ tr_on h g c (n + 1)) (k : (h (n + 1)).1 = 5) : tr_fu h g c (n + 1) = tr_F h g c (tr_kD h (fun s => s = (h (n + 1)).2.1) n) n := by
  unfold tr_fu
  rw [tr_F_o o]
  refine tr_F_k n (fun q a l _ => ?_)
  by_cases z : tr_ft h q n = 0
  · by_cases e : (h (n + 1)).2.1 = (h q).2.1
    · rw [tr_ft_e z (by omega) e (Or.inr k), k]
      exact ⟨fun y => absurd rfl y, fun y => absurd ⟨z, e.symm⟩ y.2⟩
    · rw [tr_ft_o e, z]
      exact ⟨fun y => ⟨by rw [z]; decide, fun w => e w.2.symm⟩, fun _ => by decide⟩
  · rw [tr_ft_k z]
    exact ⟨fun y => ⟨y, fun w => z w.1⟩, fun y => y.1⟩
/-- a record that doesn't touch the page leaves its cells -/
theorem tr_fu_t (W : tr_wf P C S h (n + 1)) (hg : g < 2 ^ 31) {c : Int32} (t : ¬ tr_tc h (nI g) (n + 1)) : tr_fu h (nI g) c (n + 1) = tr_fu h (nI g) c n := by
  have o : ¬ tr_on h (nI g) c (n + 1) := fun z => t (Or.inl z.1)
  by_cases k : (h (n + 1)).1 = 5
  · rw [tr_fu_a o k]
    refine tr_F_k n (fun q a l oq => ⟨fun z => z.1, fun z => ⟨z, fun y => ?_⟩⟩)
    have W' : tr_wf P C S h n := fun r x y => W r x (by omega)
    obtain ⟨b1, b2⟩ := (tr_ft_op a n l W').mp y.1
    have b3 := (tr_op_sp n b1).1
    have hk := tr_on_k W' hg a l oq
    refine t (Or.inr ⟨k, q, by omega, ?_, y.2, oq.1⟩)
    rw [Nat.add_sub_cancel, ← y.2]
    by_cases w : tr_op h (h q).2.1 n = q
    · rw [w] at b3
      rcases hk.1 with k1 | k1 <;> (rw [k1] at b3; exact absurd b3 (by decide))
    · omega
  · exact tr_fu_n o k
theorem tr_st_t {g : Int32} (t : tr_tc h g (n + 1)) : tr_st h g (n + 1) = n + 1 := tr_ift t
theorem tr_st_n {g : Int32} (t : ¬ tr_tc h g (n + 1)) : tr_st h g (n + 1) = tr_st h g n := tr_iff t
theorem tr_st_le {g : Int32} : ∀ n : Nat, tr_st h g n ≤ n
  | 0 => Nat.le_refl 0
  | n + 1 => by
    have ih := tr_st_le (g := g) n
    by_cases t : tr_tc h g (n + 1)
    · rw [tr_st_t t]; omega
    · rw [tr_st_n t]; omega
theorem tr_st_ge {g : Int32} {q : Nat} (hq : 1 ≤ q) (t : tr_tc h g q) : ∀ n : Nat, q ≤ n → q ≤ tr_st h g n
  | 0 => fun l => absurd l (by omega)
  | n + 1 => by
    intro l
    by_cases t2 : tr_tc h g (n + 1)
    · rw [tr_st_t t2]; omega
    · rw [tr_st_n t2]
      by_cases e : q = n + 1
      · subst e; exact absurd t t2
      · exact tr_st_ge hq t n (by omega)
/-- no stamp behind m: the page is at n as it was at m -/
theorem tr_st_same (W : tr_wf P C S h n) (hg : g < 2 ^ 31) (l : m ≤ n) (e : tr_st h (nI g) n ≤ m) : tr_st h (nI g) m = tr_st h (nI g) n ∧ ∀ c : Int32, tr_fu h (nI g) c m = tr_fu h (nI g) c n := by
  induction n with
  | zero => exact (show m = 0 by omega) ▸ ⟨rfl, fun _ => rfl⟩
  | succ n ih =>
    by_cases em : m = n + 1
    · subst em; exact ⟨rfl, fun _ => rfl⟩
    · have t : ¬ tr_tc h (nI g) (n + 1) := fun t => by rw [tr_st_t t] at e; omega
      rw [tr_st_n t] at e ⊢
      obtain ⟨a, b⟩ := ih (fun q x y => W q x (by omega)) (by omega) e
      exact ⟨a, fun c => by rw [tr_fu_t W hg t, b c]⟩
end
end
section
/-! the reference's readings of its history -/
theorem tr_c256 : nI 256 = 256 := by decide +kernel
section
variable {gp gc gs gm me le ae pe re : Int32} {yk yl yp yc yv zs zS zE zB zN zC : Nat → Int32} {post : Int32 → Prop}
theorem tr_y_op44 {J : Int32 → Int32 → Prop} {s p x3 : Int32} {j : Nat} (hj : j < 257) (H4 : yl j = s → yk j = 4 ∨ yk j = 5 → J 0 (nI (j + 1))) (H0 : ¬ (yl j = s ∧ (yk j = 4 ∨ yk j = 5)) → J x3 (nI (j + 1))) : wY_openAt_44 post J s p x3 (nI j) gp gc gs gm me le ae pe re yk yl yp yc yv zs zS zE zB zN zC := by
  have hin : vp_in (nI j) 257 := vp_in_nI hj (by decide)
  unfold wY_openAt_44
  rw [nI_clamp (show j < 2 ^ 31 by omega)]
  refine ⟨hin, ?_⟩
  by_cases e : yl j = s
  · by_cases k4 : yk j = 4
    · exact br_t e ⟨hin, br_t k4 (nm_r (nI_1 j) (H4 e (Or.inl k4)))⟩
    · by_cases k5 : yk j = 5
      · exact br_t e ⟨hin, br_f k4 ⟨hin, br_t k5 (nm_r (nI_1 j) (H4 e (Or.inr k5)))⟩⟩
      · exact br_t e ⟨hin, br_f k4 ⟨hin, br_f k5 (nm_r (nI_1 j) (H0 (fun z => z.2.elim k4 k5)))⟩⟩
  · exact br_f e (nm_r (nI_1 j) (H0 (fun z => e z.1)))
theorem tr_y_op5 {s : Int32} {p : Nat} (hp : p ≤ 256) (H : post (nI (tr_op (tr_h yk yl yp yc yv) s p))) : ∀ n i, i ≤ p → p - i < n → wY_openAt_5 post s (nI p) gp gc gs gm me le ae pe re yk yl yp yc yv zs zS zE zB zN zC n (nI (tr_op (tr_h yk yl yp yc yv) s i)) (nI (i + 1))
  | 0, _ => fun _ l => absurd l (by omega)
  | n + 1, i => by
    intro li ln
    by_cases ei : i = p
    · subst ei
      exact br_t (nI_lt (by omega) (by omega)) H
    · have ih := tr_y_op5 hp H n (i + 1) (by omega) (by omega)
      have hj : i + 1 < 257 := by omega
      have hin : vp_in (nI (i + 1)) 257 := vp_in_nI hj (by decide)
      refine br_f (nI_nlt (by omega) (by omega)) (br_f (by rw [← tr_c256]; exact nI_nlt (by omega) (by omega)) ⟨hin, ?_⟩)
      rw [nI_clamp (show i + 1 < 2 ^ 31 by omega)]
      by_cases e : yl (i + 1) = s
      · by_cases k : yk (i + 1) = 1
        · refine br_t e ⟨hin, br_t k (tr_y_op44 hj (fun _ z => ?_) (fun _ => ?_))⟩
          · rw [k] at z; exact absurd z (by decide)
          · rw [tr_op_b (h := (tr_h yk yl yp yc yv)) e k] at ih
            exact ih
        · refine br_t e ⟨hin, br_f k (tr_y_op44 hj (fun _ z => ?_) (fun z => ?_))⟩
          · rw [tr_op_e (h := (tr_h yk yl yp yc yv)) e z] at ih
            exact ih
          · rw [tr_op_c (h := (tr_h yk yl yp yc yv)) k (fun y => z ⟨e, Or.inl y⟩) (fun y => z ⟨e, Or.inr y⟩)] at ih
            exact ih
      · refine br_f e (tr_y_op44 hj (fun z => absurd z e) (fun _ => ?_))
        rw [tr_op_o (h := (tr_h yk yl yp yc yv)) e] at ih
        exact ih
theorem tr_y_openAt {s : Int32} {p : Nat} (hp : p ≤ 256) (H : post (nI (tr_op (tr_h yk yl yp yc yv) s p))) : wpY_openAt post (gp, gc, gs, gm, me, le, ae, pe, re, yk, yl, yp, yc, yv, zs, zS, zE, zB, zN, zC) s (nI p) :=
  ⟨p + 1, tr_y_op5 hp H (p + 1) 0 (by omega) (by omega)⟩
theorem tr_y_ft2 {q p : Nat} (hq : 1 ≤ q) (lq : q ≤ p) (hp : p ≤ 256) (H : post (tr_ft (tr_h yk yl yp yc yv) q p)) : ∀ n i, q ≤ i + 1 → tr_ft (tr_h yk yl yp yc yv) q i = 0 → i ≤ p → p - i < n → wY_fate_2 post (nI q) (nI p) gp gc gs gm me le ae pe re yk yl yp yc yv zs zS zE zB zN zC n (nI (i + 1))
  | 0, _ => fun _ _ _ l => absurd l (by omega)
  | n + 1, i => by
    intro qi f li ln
    by_cases ei : i = p
    · subst ei
      rw [f] at H
      exact br_t (nI_lt (by omega) (by omega)) H
    · have hj : i + 1 < 257 := by omega
      have hin : vp_in (nI (i + 1)) 257 := vp_in_nI hj (by decide)
      have hinq : vp_in (nI q) 257 := vp_in_nI (by omega) (by decide)
      refine br_f (nI_nlt (by omega) (by omega)) (br_f (by rw [← tr_c256]; exact nI_nlt (by omega) (by omega)) ⟨hin, hinq, ?_⟩)
      rw [nI_clamp (show i + 1 < 2 ^ 31 by omega), nI_clamp (show q < 2 ^ 31 by omega)]
      have fin : ∀ (e : yl (i + 1) = yl q) (k : yk (i + 1) = 4 ∨ yk (i + 1) = 5), post (yk (i + 1)) := fun e k => by
        have e1 : tr_ft (tr_h yk yl yp yc yv) q (i + 1) = yk (i + 1) := tr_ft_e (h := (tr_h yk yl yp yc yv)) f qi e k
        have e2 := tr_ft_up (h := (tr_h yk yl yp yc yv)) (q := q) (m := i + 1) (n := p) (by rw [e1]; rcases k with k | k <;> rw [k] <;> decide) (by omega)
        rw [e2, e1] at H
        exact H
      by_cases e : yl (i + 1) = yl q
      · by_cases k4 : yk (i + 1) = 4
        · exact br_t e ⟨hin, br_t k4 ⟨hin, fin e (Or.inl k4)⟩⟩
        · by_cases k5 : yk (i + 1) = 5
          · exact br_t e ⟨hin, br_f k4 ⟨hin, br_t k5 ⟨hin, fin e (Or.inr k5)⟩⟩⟩
          · have ih := tr_y_ft2 hq lq hp H n (i + 1) (by omega) ((tr_ft_n (h := (tr_h yk yl yp yc yv)) (fun z => z.elim k4 k5)).trans f) (by omega) (by omega)
            exact br_t e ⟨hin, br_f k4 ⟨hin, br_f k5 (nm_r (nI_1 (i + 1)) ih)⟩⟩
      · have ih := tr_y_ft2 hq lq hp H n (i + 1) (by omega) ((tr_ft_o (h := (tr_h yk yl yp yc yv)) e).trans f) (by omega) (by omega)
        exact br_f e (nm_r (nI_1 (i + 1)) ih)
theorem tr_y_fate {q p : Nat} (hq : 1 ≤ q) (lq : q ≤ p) (hp : p ≤ 256) (H : post (tr_ft (tr_h yk yl yp yc yv) q p)) : wpY_fate post (gp, gc, gs, gm, me, le, ae, pe, re, yk, yl, yp, yc, yv, zs, zS, zE, zB, zN, zC) (nI q) (nI p) := by
  obtain ⟨i, rfl⟩ : ∃ i, q = i + 1 := ⟨q - 1, by omega⟩
  exact ⟨p + 1, tr_y_ft2 hq lq hp H (p + 1) i (by omega) (tr_ft_lt i (by omega)) (by omega) (by omega)⟩
theorem tr_y_c111 {J : Int32 → Int32 → Prop} {x1 x2 x3 x4 x5 : Int32} {j : Nat} (hj : j < 257) (H : J (tr_if (yk j = 3) (x5 + yv j) x5) (nI (j + 1))) : wY_content_111 post J x1 x2 x3 x4 x5 (nI j) 1 gp gc gs gm me le ae pe re yk yl yp yc yv zs zS zE zB zN zC := by
  have hin : vp_in (nI j) 257 := vp_in_nI hj (by decide)
  unfold wY_content_111
  rw [nI_clamp (show j < 2 ^ 31 by omega)]
  refine br_f (by decide) ⟨hin, ?_⟩
  by_cases k : yk j = 3
  · rw [tr_ift k] at H
    exact br_t k ⟨hin, nm_e (nm_r (nI_1 j) H)⟩
  · rw [tr_iff k] at H
    exact br_f k (nm_r (nI_1 j) H)
theorem tr_y_c84 {J : Int32 → Int32 → Prop} {x1 x2 x3 x4 x5 : Int32} {j : Nat} (hj : j < 257) (H : J (tr_ef ((tr_h yk yl yp yc yv) j) x5) (nI (j + 1))) : wY_content_84 post J x1 x2 x3 x4 x5 (nI j) 1 gp gc gs gm me le ae pe re yk yl yp yc yv zs zS zE zB zN zC := by
  have hin : vp_in (nI j) 257 := vp_in_nI hj (by decide)
  unfold wY_content_84
  rw [nI_clamp (show j < 2 ^ 31 by omega)]
  refine br_f (by decide) ⟨hin, ?_⟩
  by_cases k : yk j = 2
  · rw [tr_ef2 (r := (tr_h yk yl yp yc yv) j) k] at H
    refine br_t k ⟨hin, nm_e (tr_y_c111 hj ?_)⟩
    rw [tr_iff (by rw [k]; decide)]
    exact H
  · refine br_f k (tr_y_c111 hj ?_)
    rw [show tr_ef ((tr_h yk yl yp yc yv) j) x5 = tr_if (yk j = 3) (x5 + yv j) x5 from tr_iff k] at H
    exact H
theorem tr_y_c84z {J : Int32 → Int32 → Prop} {x1 x2 x3 x4 x5 : Int32} {j : Nat} (H : J x5 (nI (j + 1))) : wY_content_84 post J x1 x2 x3 x4 x5 (nI j) 0 gp gc gs gm me le ae pe re yk yl yp yc yv zs zS zE zB zN zC :=
  br_t rfl (br_t rfl (nm_r (nI_1 j) H))
theorem tr_y_c6 {g c x4 : Int32} {p : Nat} {K : Nat → Prop} (hp : p ≤ 256) (HK : ∀ q, (x4 = 0 → (K q ↔ ¬ tr_ft (tr_h yk yl yp yc yv) q p = 5)) ∧ (¬ x4 = 0 → (K q ↔ tr_ft (tr_h yk yl yp yc yv) q p = 4))) (H : post (tr_F (tr_h yk yl yp yc yv) g c K p)) : ∀ n i, i ≤ p → p - i < n → wY_content_6 post g c (nI p) x4 gp gc gs gm me le ae pe re yk yl yp yc yv zs zS zE zB zN zC n (tr_F (tr_h yk yl yp yc yv) g c K i) (nI (i + 1))
  | 0, _ => fun _ l => absurd l (by omega)
  | n + 1, i => by
    intro li ln
    by_cases ei : i = p
    · subst ei
      exact br_t (nI_lt (by omega) (by omega)) H
    · have ih := tr_y_c6 hp HK H n (i + 1) (by omega) (by omega)
      have hj : i + 1 < 257 := by omega
      have hin : vp_in (nI (i + 1)) 257 := vp_in_nI hj (by decide)
      refine br_f (nI_nlt (by omega) (by omega)) (br_f (by rw [← tr_c256]; exact nI_nlt (by omega) (by omega)) ⟨hin, ?_⟩)
      rw [nI_clamp (show i + 1 < 2 ^ 31 by omega)]
      by_cases eg : yp (i + 1) = g
      · by_cases ec : yc (i + 1) = c
        · refine br_t eg ⟨hin, br_t ec (tr_y_fate (by omega) (by omega) hp ?_)⟩
          have hk := HK (i + 1)
          have o : tr_on (tr_h yk yl yp yc yv) g c (i + 1) := ⟨eg, ec⟩
          by_cases z : x4 = 0
          · by_cases f : tr_ft (tr_h yk yl yp yc yv) (i + 1) p = 5
            · rw [tr_F_n (fun y => (hk.1 z).mp y f)] at ih
              exact br_t z (br_t f (tr_y_c84z ih))
            · rw [tr_F_s o ((hk.1 z).mpr f)] at ih
              exact br_t z (br_f f (tr_y_c84 hj ih))
          · by_cases f : tr_ft (tr_h yk yl yp yc yv) (i + 1) p = 4
            · rw [tr_F_s o ((hk.2 z).mpr f)] at ih
              exact br_f z (br_t f (tr_y_c84 hj ih))
            · rw [tr_F_n (fun y => f ((hk.2 z).mp y))] at ih
              exact br_f z (br_f f (tr_y_c84z ih))
        · rw [tr_F_o (fun z => ec z.2)] at ih
          exact br_t eg ⟨hin, br_f ec (nm_r (nI_1 (i + 1)) ih)⟩
      · rw [tr_F_o (fun z => eg z.1)] at ih
        exact br_f eg (nm_r (nI_1 (i + 1)) ih)
theorem tr_y_full {g c : Int32} {p : Nat} (hp : p ≤ 256) (H : post (tr_fu (tr_h yk yl yp yc yv) g c p)) : wpY_content post (gp, gc, gs, gm, me, le, ae, pe, re, yk, yl, yp, yc, yv, zs, zS, zE, zB, zN, zC) g c (nI p) 0 :=
  ⟨p + 1, tr_y_c6 hp (fun q => ⟨fun _ => Iff.rfl, fun z => absurd rfl z⟩) H (p + 1) 0 (by omega) (by omega)⟩
theorem tr_y_comm {g c : Int32} {p : Nat} (hp : p ≤ 256) (H : post (tr_co (tr_h yk yl yp yc yv) g c p)) : wpY_content post (gp, gc, gs, gm, me, le, ae, pe, re, yk, yl, yp, yc, yv, zs, zS, zE, zB, zN, zC) g c (nI p) 1 :=
  ⟨p + 1, tr_y_c6 hp (fun q => ⟨fun z => absurd z (by decide), fun _ => Iff.rfl⟩) H (p + 1) 0 (by omega) (by omega)⟩
theorem tr_y_s140 {J : Int32 → Int32 → Prop} {x1 x2 x3 : Int32} {q : Nat} {x5 : Int32} {T : Prop} (hx : (x5 = 1 ∧ T) ∨ (x5 = 0 ∧ ¬ T)) (H1 : T → J (nI q) (nI (q + 1))) (H0 : ¬ T → J x3 (nI (q + 1))) : wY_stamp_140 post J x1 x2 x3 (nI q) x5 gp gc gs gm me le ae pe re yk yl yp yc yv zs zS zE zB zN zC := by
  rcases hx with ⟨rfl, t⟩ | ⟨rfl, t⟩
  · exact br_f (by decide) (nm_r (nI_1 q) (H1 t))
  · exact br_t rfl (nm_r (nI_1 q) (H0 t))
theorem tr_y_s103 {J : Int32 → Int32 → Prop} {J2 : Int32 → Int32 → Int32 → Prop} {x1 x2 x3 x5 x6 : Int32} {q r : Nat} (hq : q < 257) (hr : r + 1 < 257) (Hb : yl (r + 1) = yl q → yk (r + 1) = 1 → J2 x5 0 (nI r)) (Hn : ¬ (yl (r + 1) = yl q ∧ yk (r + 1) = 1) → J2 x5 x6 (nI r)) : wY_stamp_103 post J J2 x1 x2 x3 (nI q) x5 x6 (nI (r + 1)) gp gc gs gm me le ae pe re yk yl yp yc yv zs zS zE zB zN zC := by
  have hin : vp_in (nI (r + 1)) 257 := vp_in_nI hr (by decide)
  have hinq : vp_in (nI q) 257 := vp_in_nI hq (by decide)
  unfold wY_stamp_103
  rw [nI_clamp (show r + 1 < 2 ^ 31 by omega), nI_clamp (show q < 2 ^ 31 by omega)]
  refine ⟨hin, hinq, ?_⟩
  by_cases e : yl (r + 1) = yl q
  · by_cases k : yk (r + 1) = 1
    · exact br_t e ⟨hin, br_t k (nm_r (pk_m1 r) (Hb e k))⟩
    · exact br_t e ⟨hin, br_f k (nm_r (pk_m1 r) (Hn (fun z => k z.2)))⟩
  · exact br_f e (nm_r (pk_m1 r) (Hn (fun z => e z.1)))
/-- out of the inner loop -/
theorem tr_y_s61z {J : Int32 → Int32 → Prop} {x1 x2 x3 x5 x7 : Int32} {q n : Nat} (H : wY_stamp_140 post J x1 x2 x3 (nI q) x5 gp gc gs gm me le ae pe re yk yl yp yc yv zs zS zE zB zN zC) : wY_stamp_61 post J x1 x2 x3 (nI q) gp gc gs gm me le ae pe re yk yl yp yc yv zs zS zE zB zN zC (n + 1) x5 0 x7 :=
  br_c (fun _ => H) (fun _ => br_t rfl H)
theorem tr_y_s61 {J : Int32 → Int32 → Prop} {x2 x3 : Int32} {g q b : Nat} (hg : g < 2 ^ 31) (hq : q < 257) (hb : 1 ≤ b) (kb : yk b = 1) (lb : yl b = yl q) (pb : yp b = -1) (nb : ∀ r, b < r → r < q → yl r = yl q → ¬ yk r = 1)
    (H1 : (yp q = nI g ∨ ∃ r, r < q ∧ b < r ∧ yl r = yl q ∧ yp r = nI g) → J (nI q) (nI (q + 1))) (H0 : ¬ (yp q = nI g ∨ ∃ r, r < q ∧ b < r ∧ yl r = yl q ∧ yp r = nI g) → J x3 (nI (q + 1))) :
    ∀ n r x5, b ≤ r → r < q → r - b + 1 < n → ((x5 = 1 ∧ (yp q = nI g ∨ ∃ t, t < q ∧ r < t ∧ yl t = yl q ∧ yp t = nI g)) ∨ (x5 = 0 ∧ ¬ (yp q = nI g ∨ ∃ t, t < q ∧ r < t ∧ yl t = yl q ∧ yp t = nI g))) → wY_stamp_61 post J (nI g) x2 x3 (nI q) gp gc gs gm me le ae pe re yk yl yp yc yv zs zS zE zB zN zC n x5 1 (nI r)
  | 0, _, _ => fun _ _ l => absurd l (by omega)
  | n + 1, r, x5 => by
    intro lr lq ln hx
    obtain ⟨r, rfl⟩ : ∃ i, r = i + 1 := ⟨r - 1, by omega⟩
    have hin : vp_in (nI (r + 1)) 257 := vp_in_nI (by omega) (by decide)
    have hinq : vp_in (nI q) 257 := vp_in_nI hq (by decide)
    refine br_f (nI_nlt (b := 1) (by omega) (by omega)) (br_f (by decide) ⟨hin, hinq, ?_⟩)
    rw [nI_clamp (show r + 1 < 2 ^ 31 by omega), nI_clamp (show q < 2 ^ 31 by omega)]
    by_cases er : r + 1 = b
    · subst er
      have np : ¬ yp (r + 1) = nI g := by rw [pb]; exact tr_m1ne hg
      obtain ⟨n, rfl⟩ : ∃ i, n = i + 1 := ⟨n - 1, by omega⟩
      exact br_t lb ⟨hin, br_f np (tr_y_s103 hq (by omega) (fun _ _ => tr_y_s61z (tr_y_s140 hx H1 H0)) (fun z => absurd ⟨lb, kb⟩ z))⟩
    · have ih := tr_y_s61 (J := J) (x2 := x2) (x3 := x3) hg hq hb kb lb pb nb H1 H0 n r
      have nk : ¬ (yl (r + 1) = yl q ∧ yk (r + 1) = 1) := fun z => nb (r + 1) (by omega) lq z.1 z.2
      by_cases e : yl (r + 1) = yl q
      · by_cases ep : yp (r + 1) = nI g
        · refine br_t e ⟨hin, br_t ep (tr_y_s103 hq (by omega) (fun y z => absurd ⟨y, z⟩ nk) (fun _ => ih 1 (by omega) (by omega) (by omega) (Or.inl ⟨rfl, Or.inr ⟨r + 1, lq, by omega, e, ep⟩⟩)))⟩
        · refine br_t e ⟨hin, br_f ep (tr_y_s103 hq (by omega) (fun y z => absurd ⟨y, z⟩ nk) (fun _ => ih x5 (by omega) (by omega) (by omega) ?_))⟩
          have eqv : (yp q = nI g ∨ ∃ t, t < q ∧ r + 1 < t ∧ yl t = yl q ∧ yp t = nI g) ↔ (yp q = nI g ∨ ∃ t, t < q ∧ r < t ∧ yl t = yl q ∧ yp t = nI g) := by
            constructor
            · rintro (z | ⟨t, a, b, c⟩)
              · exact Or.inl z
              · exact Or.inr ⟨t, a, by omega, c⟩
            · rintro (z | ⟨t, a, b, c⟩)
              · exact Or.inl z
              · by_cases et : t = r + 1
                · subst et; exact absurd c.2 ep
                · exact Or.inr ⟨t, a, by omega, c⟩
          rw [eqv] at hx
          exact hx
      · refine br_f e (tr_y_s103 hq (by omega) (fun y z => absurd ⟨y, z⟩ nk) (fun _ => ih x5 (by omega) (by omega) (by omega) ?_))
        have eqv : (yp q = nI g ∨ ∃ t, t < q ∧ r + 1 < t ∧ yl t = yl q ∧ yp t = nI g) ↔ (yp q = nI g ∨ ∃ t, t < q ∧ r < t ∧ yl t = yl q ∧ yp t = nI g) := by
          constructor
          · rintro (z | ⟨t, a, b, c⟩)
            · exact Or.inl z
            · exact Or.inr ⟨t, a, by omega, c⟩
          · rintro (z | ⟨t, a, b, c⟩)
            · exact Or.inl z
            · by_cases et : t = r + 1
              · subst et; exact absurd c.1 e
              · exact Or.inr ⟨t, a, by omega, c⟩
        rw [eqv] at hx
        exact hx
/-- one record of the stamp's walk -/
theorem tr_y_s35 {P C S : Nat} {J : Int32 → Int32 → Prop} {x2 x3 z0 : Int32} {g i : Nat} (W : tr_wf P C S (tr_h yk yl yp yc yv) (i + 1)) (hg : g < 2 ^ 31) (hi : i + 1 < 257) (hz : (z0 = 1 ∧ yp (i + 1) = nI g) ∨ (z0 = 0 ∧ ¬ yp (i + 1) = nI g))
    (H1 : tr_tc (tr_h yk yl yp yc yv) (nI g) (i + 1) → J (nI (i + 1)) (nI (i + 1 + 1))) (H0 : ¬ tr_tc (tr_h yk yl yp yc yv) (nI g) (i + 1) → J x3 (nI (i + 1 + 1))) : wY_stamp_35 post J (nI g) x2 x3 (nI (i + 1)) z0 gp gc gs gm me le ae pe re yk yl yp yc yv zs zS zE zB zN zC := by
  have hin : vp_in (nI (i + 1)) 257 := vp_in_nI hi (by decide)
  unfold wY_stamp_35
  rw [nI_clamp (show i + 1 < 2 ^ 31 by omega)]
  refine ⟨hin, ?_⟩
  by_cases k : yk (i + 1) = 5
  · refine br_t k (nm_r (nI_pred i) ⟨i + 2, ?_⟩)
    have O := (W (i + 1) (by omega) (by omega)).2
    have o0 : tr_op (tr_h yk yl yp yc yv) (yl (i + 1)) i ≠ 0 := by
      rcases O with z | z | z
      · exact absurd (k.symm.trans z.1) (by decide)
      · rcases z.1 with y | y <;> exact absurd (k.symm.trans y) (by decide)
      · exact z.2.1
    obtain ⟨b1, b2, b3⟩ := tr_op_sp (h := (tr_h yk yl yp yc yv)) i o0
    have bl := tr_op_le (h := (tr_h yk yl yp yc yv)) (s := yl (i + 1)) i
    have bp : yp (tr_op (tr_h yk yl yp yc yv) (yl (i + 1)) i) = -1 := by
      rcases (W (tr_op (tr_h yk yl yp yc yv) (yl (i + 1)) i) (by omega) (by omega)).2 with z | z | z
      · exact z.2.2.1
      · rcases z.1 with y | y <;> exact absurd (b1.symm.trans y) (by decide)
      · exact z.2.2.1
    refine tr_y_s61 (J := J) (x2 := x2) (x3 := x3) (b := tr_op (tr_h yk yl yp yc yv) (yl (i + 1)) i) hg hi (by omega) b1 b2 bp (fun r y z w => (b3 r y (by omega) w).1) (fun z => H1 ?_) (fun z => H0 (fun y => z ?_)) (i + 2) i z0 bl (by omega) (by omega) ?_
    · rcases z with z | z
      · exact Or.inl z
      · exact Or.inr ⟨k, z⟩
    · rcases y with y | y
      · exact Or.inl y
      · exact Or.inr y.2
    · have em : ¬ ∃ t, t < i + 1 ∧ i < t ∧ yl t = yl (i + 1) ∧ yp t = nI g := fun ⟨t, a, b, _⟩ => absurd a (by omega)
      rcases hz with ⟨z, y⟩ | ⟨z, y⟩
      · exact Or.inl ⟨z, Or.inl y⟩
      · exact Or.inr ⟨z, fun w => w.elim y em⟩
  · refine br_f k (nm_r (nI_pred i) ⟨1, tr_y_s61z (tr_y_s140 (T := tr_tc (tr_h yk yl yp yc yv) (nI g) (i + 1)) ?_ H1 H0)⟩)
    rcases hz with ⟨z, y⟩ | ⟨z, y⟩
    · exact Or.inl ⟨z, Or.inl y⟩
    · exact Or.inr ⟨z, fun w => w.elim y (fun v => k v.1)⟩
theorem tr_y_s5 {P C S : Nat} {g p : Nat} (W : tr_wf P C S (tr_h yk yl yp yc yv) p) (hg : g < 2 ^ 31) (hp : p ≤ 256) (H : post (nI (tr_st (tr_h yk yl yp yc yv) (nI g) p))) : ∀ n i, i ≤ p → p - i < n → wY_stamp_5 post (nI g) (nI p) gp gc gs gm me le ae pe re yk yl yp yc yv zs zS zE zB zN zC n (nI (tr_st (tr_h yk yl yp yc yv) (nI g) i)) (nI (i + 1))
  | 0, _ => fun _ l => absurd l (by omega)
  | n + 1, i => by
    intro li ln
    by_cases ei : i = p
    · subst ei
      exact br_t (nI_lt (by omega) (by omega)) H
    · have ih := tr_y_s5 W hg hp H n (i + 1) (by omega) (by omega)
      have hj : i + 1 < 257 := by omega
      have hin : vp_in (nI (i + 1)) 257 := vp_in_nI hj (by decide)
      have W' : tr_wf P C S (tr_h yk yl yp yc yv) (i + 1) := fun q a b => W q a (by omega)
      have H1 : tr_tc (tr_h yk yl yp yc yv) (nI g) (i + 1) → wY_stamp_5 post (nI g) (nI p) gp gc gs gm me le ae pe re yk yl yp yc yv zs zS zE zB zN zC n (nI (i + 1)) (nI (i + 1 + 1)) := fun t => by rw [tr_st_t t] at ih; exact ih
      have H0 : ¬ tr_tc (tr_h yk yl yp yc yv) (nI g) (i + 1) → wY_stamp_5 post (nI g) (nI p) gp gc gs gm me le ae pe re yk yl yp yc yv zs zS zE zB zN zC n (nI (tr_st (tr_h yk yl yp yc yv) (nI g) i)) (nI (i + 1 + 1)) := fun t => by rw [tr_st_n t] at ih; exact ih
      refine br_f (nI_nlt (by omega) (by omega)) (br_f (by rw [← tr_c256]; exact nI_nlt (by omega) (by omega)) ⟨hin, ?_⟩)
      rw [nI_clamp (show i + 1 < 2 ^ 31 by omega)]
      by_cases eg : yp (i + 1) = nI g
      · exact br_t eg (tr_y_s35 W' hg hj (Or.inl ⟨rfl, eg⟩) H1 H0)
      · exact br_f eg (tr_y_s35 W' hg hj (Or.inr ⟨rfl, eg⟩) H1 H0)
theorem tr_y_stamp {P C S : Nat} {g p : Nat} (W : tr_wf P C S (tr_h yk yl yp yc yv) p) (hg : g < 2 ^ 31) (hp : p ≤ 256) (H : post (nI (tr_st (tr_h yk yl yp yc yv) (nI g) p))) : wpY_stamp post (gp, gc, gs, gm, me, le, ae, pe, re, yk, yl, yp, yc, yv, zs, zS, zE, zB, zN, zC) (nI g) (nI p) :=
  ⟨p + 1, tr_y_s5 W hg hp H (p + 1) 0 (by omega) (by omega)⟩
theorem tr_y_oc4 {S L : Nat} (hS : S ≤ 4) (hL : L ≤ 256) (H : post (nI (tr_oc (tr_h yk yl yp yc yv) L S))) : ∀ n i, i ≤ S → S - i < n → wY_openCount_4 post gp gc (nI S) gm me (nI L) ae pe re yk yl yp yc yv zs zS zE zB zN zC n (nI (tr_oc (tr_h yk yl yp yc yv) L i)) (nI i)
  | 0, _ => fun _ l => absurd l (by omega)
  | n + 1, i => by
    intro li ln
    by_cases ei : i = S
    · subst ei
      exact br_t (nI_le (by omega) (by omega)) H
    · have ih := tr_y_oc4 hS hL H n (i + 1) (by omega) (by omega)
      refine br_f (nI_ge (by omega) (by omega)) (tr_y_openAt hL ?_)
      have lo := tr_op_le (h := (tr_h yk yl yp yc yv)) (s := nI i) L
      by_cases z : tr_op (tr_h yk yl yp yc yv) (nI i) L = 0
      · rw [show tr_oc (tr_h yk yl yp yc yv) L (i + 1) = tr_oc (tr_h yk yl yp yc yv) L i from (by show _ + tr_if _ _ _ = _; rw [tr_ift z, Nat.add_zero])] at ih
        exact br_t (by rw [z]; decide) (nm_r (nI_1 i) ih)
      · rw [show tr_oc (tr_h yk yl yp yc yv) L (i + 1) = tr_oc (tr_h yk yl yp yc yv) L i + 1 from (by show _ + tr_if _ _ _ = _; rw [tr_iff z])] at ih
        exact br_f (nI_nle (by omega) (by omega)) (nm_r (nI_1 _) (nm_r (nI_1 i) ih))
theorem tr_y_openCount {S L : Nat} (hS : S ≤ 4) (hL : L ≤ 256) (H : post (nI (tr_oc (tr_h yk yl yp yc yv) L S))) : wpY_openCount post (gp, gc, nI S, gm, me, nI L, ae, pe, re, yk, yl, yp, yc, yv, zs, zS, zE, zB, zN, zC) :=
  ⟨S + 1, tr_y_oc4 hS hL H (S + 1) 0 (by omega) (by omega)⟩
theorem tr_y_write {post : Int32 → SY → Prop} {L : Nat} {k s g c v : Int32} (hL : L < 256) (H : post (nI (L + 1)) (gp, gc, gs, gm, me, nI (L + 1), ae, pe, re, upd yk (L + 1) k, upd yl (L + 1) s, upd yp (L + 1) g, upd yc (L + 1) c, upd yv (L + 1) v, zs, zS, zE, zB, zN, zC)) : wpY_write post (gp, gc, gs, gm, me, nI L, ae, pe, re, yk, yl, yp, yc, yv, zs, zS, zE, zB, zN, zC) k s g c v := by
  have hin : vp_in (nI (L + 1)) 257 := vp_in_nI (by omega) (by decide)
  have hc : (nI (L + 1)).toNatClampNeg = L + 1 := nI_clamp (by omega)
  refine br_t (by rw [← tr_c256]; exact nI_lt hL (by decide)) (nm_r (nI_1 L) ?_)
  rw [hc]
  exact ⟨hin, nm_e ⟨hin, nm_e ⟨hin, nm_e ⟨hin, nm_e ⟨hin, nm_e H⟩⟩⟩⟩⟩
end
end
section
/-! bits -/
theorem tr_bt1 (i : Nat) : bt 1 i = decide (i = 0) := by
  rcases Nat.lt_or_ge i 32 with h | h
  · exact (by decide +kernel : ∀ i, i < 32 → bt 1 i = decide (i = 0)) i h
  · rw [b_big h, decide_eq_false (by omega)]
theorem tr_bsh {g i : Nat} (hg : g < 32) (hi : i < 32) : bt ((1 : Int32) <<< (nI g &&& 31)) i = decide (i = g) := by
  rw [b_shl g hg 1 hi, tr_bt1]
  rcases Nat.lt_trichotomy i g with h | h | h
  · rw [decide_eq_false (by omega : ¬ g ≤ i), decide_eq_false (by omega : ¬ i = g)]; rfl
  · subst h; rw [decide_eq_true (Nat.le_refl i), decide_eq_true (by omega), decide_eq_true rfl]; rfl
  · rw [decide_eq_true (by omega : g ≤ i), decide_eq_false (by omega : ¬ i - g = 0), decide_eq_false (by omega : ¬ i = g)]; rfl
theorem tr_bz {m : Int32} {g : Nat} (hg : g < 32) : (m &&& ((1 : Int32) <<< (nI g &&& 31))) = 0 ↔ bt m g = false := by
  constructor
  · intro e
    have h := congrArg (fun x => bt x g) e
    simp only [b_and, b_0, tr_bsh hg hg, decide_true, Bool.and_true] at h
    exact h
  · intro e
    refine b_ext (fun i hi => ?_)
    rw [b_and, b_0, tr_bsh hg hi]
    by_cases h : i = g
    · subst h; rw [e]; rfl
    · rw [decide_eq_false h, Bool.and_false]
theorem tr_bnz {m : Int32} {g : Nat} (hg : g < 32) : ¬ (m &&& ((1 : Int32) <<< (nI g &&& 31))) = 0 ↔ bt m g = true := by
  rw [tr_bz hg]; cases bt m g <;> decide
theorem tr_bnot (x : Int32) {i : Nat} (hi : i < 32) : bt (x ^^^ (-1)) i = !bt x i := by
  rw [b_xor, b_m1 i hi]; cases bt x i <;> rfl
theorem tr_b_eq0 {m : Int32} : m = 0 ↔ ∀ i, i < 32 → bt m i = false := ⟨fun e i _ => by rw [e, b_0], fun h => b_ext (fun i hi => by rw [h i hi, b_0])⟩
theorem tr_b_ne0 {m : Int32} : ¬ m = 0 ↔ ∃ i, i < 32 ∧ bt m i = true := by
  rw [tr_b_eq0]
  constructor
  · intro h
    refine Classical.byContradiction (fun hn => h (fun i hi => ?_))
    cases e : bt m i
    · rfl
    · exact absurd ⟨i, hi, e⟩ hn
  · rintro ⟨i, hi, e⟩ h
    rw [h i hi] at e; exact absurd e (by decide)
theorem tr_bf {x : Bool} (h : ¬ x = true) : x = false := by cases x <;> simp_all
/-! the relation's parts -/
def tr_Sz (P C S M : Nat) : Prop := 2 ≤ P ∧ P ≤ 8 ∧ 1 ≤ C ∧ C ≤ 4 ∧ 1 ≤ S ∧ S ≤ 4 ∧ 16 ≤ M ∧ M ≤ 96
/-- every prefix leaves room for the ends of its open transactions -/
def tr_Rm (S M Q : Nat) (h : Nat → tr_R) (n : Nat) : Prop := ∀ p, p ≤ n → p + tr_oc h p S ≤ 256 ∧ p + tr_oc h p S ≤ M + Q
/-- the ring holds the records behind Q -/
def tr_Rg (h : Nat → tr_R) (Q L : Nat) (lk ls lp lc lv lb : Nat → Int32) : Prop := ∀ q, Q < q → q ≤ L → lk (q % 96) = (h q).1 ∧ ls (q % 96) = (h q).2.1 ∧ lp (q % 96) = (h q).2.2.1 ∧ lc (q % 96) = (h q).2.2.2.1 ∧ lv (q % 96) = (h q).2.2.2.2 ∧ ((h q).1 = 2 → lb (q % 96) = tr_fu h (h q).2.2.1 (h q).2.2.2.1 (q - 1))
def tr_Ce (P C : Nat) (f : Int32 → Int32 → Int32) (cv : Nat → Int32) : Prop := ∀ g, g < P → ∀ c, c < C → cv (g * 4 + c) = f (nI g) (nI c)
def tr_Sp (P : Nat) (h : Nat → tr_R) (n : Nat) (sp : Nat → Int32) : Prop := ∀ g, g < P → sp g = nI (tr_st h (nI g) n)
def tr_Ob (S : Nat) (h : Nat → tr_R) (n : Nat) (ob : Nat → Int32) : Prop := ∀ s, s < S → ob s = nI (tr_op h (nI s) n)
def tr_Lk (P C : Nat) (h : Nat → tr_R) (n : Nat) (k : Int32) (pl : Nat → Int32) : Prop := ∀ g, g < P → ∀ c, c < C → ∀ i, i < 32 → (bt (pl (g * 4 + c)) i = true ↔ ∃ q, 1 ≤ q ∧ q ≤ n ∧ tr_on h (nI g) (nI c) q ∧ (h q).2.1 = nI i ∧ (h q).1 = k ∧ tr_ft h q n = 0)
def tr_Z (pl al : Nat → Int32) : Prop := ∀ i, i < 32 → pl i = 0 ∧ al i = 0
def tr_No (S : Nat) (h : Nat → tr_R) (n Q : Nat) : Prop := ∀ s, s < S → tr_op h (nI s) n ≠ 0 → Q < tr_op h (nI s) n
def tr_Live (P C S : Nat) (h : Nat → tr_R) (L A Q : Nat) (cv sp pl al ob : Nat → Int32) : Prop :=
  tr_Ce P C (fun g c => tr_fu h g c L) cv ∧ tr_Sp P h L sp ∧ tr_Ob S h L ob ∧ tr_Lk P C h L 2 pl ∧ tr_Lk P C h L 3 al ∧ tr_No S h L Q ∧ Q ≤ A ∧ A ≤ L
def tr_Rest (P C S : Nat) (h : Nat → tr_R) (R A Q : Nat) (cv sp pl al ob : Nat → Int32) : Prop :=
  tr_Ce P C (fun g c => tr_co h g c R) cv ∧ tr_Sp P h R sp ∧ tr_Ob S h R ob ∧ tr_No S h R Q ∧ tr_Z pl al ∧ Q ≤ R ∧ R ≤ A
def tr_Md (P C S : Nat) (h : Nat → tr_R) (L A Q : Nat) (md ra re rn : Int32) (cv sp pl al ob : Nat → Int32) : Prop :=
  (md = 0 ∧ tr_Live P C S h L A Q cv sp pl al ob) ∨ (md = 1 ∧ tr_Z pl al ∧ rn = -1 ∧ A = L ∧ Q ≤ A) ∨ (md = 2 ∧ rn = -1 ∧ A = L ∧ ∃ R, ra = nI R ∧ re = nI R ∧ tr_Rest P C S h R A Q cv sp pl al ob)
/-- page g of backup b: not in the plan, not yet copied, or copied at K -/
def tr_Pg (C : Nat) (h : Nat → tr_R) (L : Nat) (bP bD kS kV zs zC : Nat → Int32) (eS eE : Nat → Nat) (b g : Nat) : Prop :=
  (zC (b * 8 + g) = -1 ∧ bt (bP b) g = false ∧ bt (bD b) g = false)
  ∨ (zC (b * 8 + g) = -2 ∧ zs b = 1 ∧ bt (bP b) g = true ∧ bt (bD b) g = false)
  ∨ (∃ K, zC (b * 8 + g) = nI K ∧ eS b ≤ K ∧ K ≤ L ∧ (zs b = 2 → K ≤ eE b) ∧ bt (bP b) g = true ∧ bt (bD b) g = true ∧ kS (b * 8 + g) = nI (tr_st h (nI g) K) ∧ ∀ c, c < C → kV ((b * 8 + g) * 4 + c) = tr_fu h (nI g) (nI c) K)
/-- the base of backup b -/
def tr_Ba (P : Nat) (h : Nat → tr_R) (zs zB zC : Nat → Int32) (eS eE rk : Nat → Nat) (b : Nat) : Prop :=
  (zB b = -1 ∧ ∀ g, g < P → ¬ zC (b * 8 + g) = -1)
  ∨ (∃ B, B < 6 ∧ zB b = nI B ∧ zs B = 2 ∧ eE B ≤ eS b ∧ rk B < rk b ∧ ∀ g, g < P → zC (b * 8 + g) = -1 → tr_st h (nI g) (eS b) ≤ eS B)
def tr_B1 (P C S : Nat) (h : Nat → tr_R) (L : Nat) (bS bE bB bN bP bD kS kV zs zS zE zB zN zC : Nat → Int32) (eS eN eE rk : Nat → Nat) (b : Nat) : Prop :=
  (bS b = nI (eS b) ∧ zS b = nI (eS b) ∧ eS b ≤ L)
  ∧ (bN b = nI (eN b) ∧ zN b = nI (eN b) ∧ 1 ≤ eN b ∧ eN b ≤ eS b + 1 ∧ ∀ s, s < S → tr_op h (nI s) (eS b) ≠ 0 → eN b ≤ tr_op h (nI s) (eS b))
  ∧ (bE b = zE b ∧ (zs b = 2 → zE b = nI (eE b) ∧ eS b ≤ eE b ∧ eE b ≤ L) ∧ (zs b = 1 → zE b = -1 ∧ ∃ g, g < P ∧ zC (b * 8 + g) = -2))
  ∧ (bB b = zB b ∧ tr_Ba P h zs zB zC eS eE rk b)
  ∧ (∀ i, i < 32 → P ≤ i → bt (bP b) i = false ∧ bt (bD b) i = false)
  ∧ (∀ g, g < P → tr_Pg C h L bP bD kS kV zs zC eS eE b g)
def tr_Bk (P C S : Nat) (h : Nat → tr_R) (L : Nat) (bs bS bE bB bN bP bD kS kV zs zS zE zB zN zC : Nat → Int32) (eS eN eE rk : Nat → Nat) : Prop :=
  ∀ b, b < 6 → bs b = zs b ∧ (zs b = 0 ∨ zs b = 1 ∨ zs b = 2) ∧ (zs b ≠ 0 → tr_B1 P C S h L bS bE bB bN bP bD kS kV zs zS zE zB zN zC eS eN eE rk b)
def tr_Rn (rn : Int32) (zs : Nat → Int32) : Prop := (rn = -1 ∧ ∀ b, b < 6 → ¬ zs b = 1) ∨ ∃ r, r < 6 ∧ rn = nI r ∧ zs r = 1 ∧ ∀ b, b < 6 → zs b = 1 → b = r
def tr_Rel (P C S M L A Q : Nat) (md ra rn : Int32) (cv sp pl al ob lk ls lp lc lv lb bs bS bE bB bN bP bD kS kV : Nat → Int32) (re : Int32) (yk yl yp yc yv zs zS zE zB zN zC : Nat → Int32) : Prop :=
  tr_Sz P C S M ∧ tr_wf P C S (tr_h yk yl yp yc yv) L ∧ tr_Rm S M Q (tr_h yk yl yp yc yv) L ∧ tr_Rg (tr_h yk yl yp yc yv) Q L lk ls lp lc lv lb
  ∧ (∃ eS eN eE rk : Nat → Nat, tr_Bk P C S (tr_h yk yl yp yc yv) L bs bS bE bB bN bP bD kS kV zs zS zE zB zN zC eS eN eE rk)
  ∧ tr_Rn rn zs ∧ tr_Md P C S (tr_h yk yl yp yc yv) L A Q md ra re rn cv sp pl al ob
/-- both sides keep one history, the component as what it has made of it -/
def i_Rel (k : Nat) (u : SX) (v : SY) : Prop := match u with
  | (fp, fc, fs, fm, md, la, ar, pr, ra, rn, cv, sp, pl, al, ob, lk, ls, lp, lc, lv, lb, bs, bS, bE, bB, bN, bP, bD, kS, kV) => match v with
    | (gp, gc, gs, gm, me, le, ae, pe, re, yk, yl, yp, yc, yv, zs, zS, zE, zB, zN, zC) => ∃ P C S M L A Q : Nat, fp = nI P ∧ fc = nI C ∧ fs = nI S ∧ fm = nI M ∧ la = nI L ∧ ar = nI A ∧ pr = nI Q ∧ gp = nI P ∧ gc = nI C ∧ gs = nI S ∧ gm = nI M ∧ me = md ∧ le = nI L ∧ ae = nI A ∧ pe = nI Q ∧ tr_Rel P C S M L A Q md ra rn cv sp pl al ob lk ls lp lc lv lb bs bS bE bB bN bP bD kS kV re yk yl yp yc yv zs zS zE zB zN zC
theorem i_up {k : Nat} {u : SX} {v : SY} (h : i_Rel k u v) : i_Rel (k + 5) u v := h
theorem tr_el {Pr : SX → SY → Prop} {k : Nat} (H : ∀ (P C S M L A Q : Nat) (md ra rn : Int32) (cv sp pl al ob lk ls lp lc lv lb bs bS bE bB bN bP bD kS kV : Nat → Int32) (re : Int32) (yk yl yp yc yv zs zS zE zB zN zC : Nat → Int32), tr_Rel P C S M L A Q md ra rn cv sp pl al ob lk ls lp lc lv lb bs bS bE bB bN bP bD kS kV re yk yl yp yc yv zs zS zE zB zN zC → Pr (nI P, nI C, nI S, nI M, md, nI L, nI A, nI Q, ra, rn, cv, sp, pl, al, ob, lk, ls, lp, lc, lv, lb, bs, bS, bE, bB, bN, bP, bD, kS, kV) (nI P, nI C, nI S, nI M, md, nI L, nI A, nI Q, re, yk, yl, yp, yc, yv, zs, zS, zE, zB, zN, zC)) : ∀ u v, i_Rel k u v → Pr u v := by
  intro ⟨fp, fc, fs, fm, md, la, ar, pr, ra, rn, cv, sp, pl, al, ob, lk, ls, lp, lc, lv, lb, bs, bS, bE, bB, bN, bP, bD, kS, kV⟩ ⟨gp, gc, gs, gm, me, le, ae, pe, re, yk, yl, yp, yc, yv, zs, zS, zE, zB, zN, zC⟩ I
  obtain ⟨P, C, S, M, L, A, Q, rfl, rfl, rfl, rfl, rfl, rfl, rfl, rfl, rfl, rfl, rfl, rfl, rfl, rfl, rfl, R⟩ := I
  exact H _ _ _ _ _ _ _ _ _ _ cv sp pl al ob lk ls lp lc lv lb bs bS bE bB bN bP bD kS kV _ yk yl yp yc yv zs zS zE zB zN zC R
theorem tr_mk {k P C S M L A Q : Nat} {md ra rn : Int32} {cv sp pl al ob lk ls lp lc lv lb bs bS bE bB bN bP bD kS kV : Nat → Int32} {re : Int32} {yk yl yp yc yv zs zS zE zB zN zC : Nat → Int32} (R : tr_Rel P C S M L A Q md ra rn cv sp pl al ob lk ls lp lc lv lb bs bS bE bB bN bP bD kS kV re yk yl yp yc yv zs zS zE zB zN zC) : i_Rel k (nI P, nI C, nI S, nI M, md, nI L, nI A, nI Q, ra, rn, cv, sp, pl, al, ob, lk, ls, lp, lc, lv, lb, bs, bS, bE, bB, bN, bP, bD, kS, kV) (nI P, nI C, nI S, nI M, md, nI L, nI A, nI Q, re, yk, yl, yp, yc, yv, zs, zS, zE, zB, zN, zC) :=
  ⟨P, C, S, M, L, A, Q, rfl, rfl, rfl, rfl, rfl, rfl, rfl, rfl, rfl, rfl, rfl, rfl, rfl, rfl, rfl, R⟩
end
section
/-! the component's small helpers -/
theorem tr_c96 : nI 96 = 96 := by decide +kernel
theorem tr_rem {a : Nat} (h : a < 2 ^ 31) : nI a - nI a / 96 * 96 = nI (a % 96) := by
  have := pk_rem (d := 96) h (by decide) (by decide)
  rwa [tr_c96] at this
section
variable {fp fc fs fm md la ar pr ra rn : Int32} {cv sp pl al ob lk ls lp lc lv lb bs bS bE bB bN bP bD kS kV : Nat → Int32} {post : Int32 → Prop} {pv : SX → Prop} {pr2 : Int32 → SX → Prop}
theorem tr_x_isSlot1 {S j : Nat} (hS : S ≤ 4) (hj : j < S) (H : post 1) : wpX_isSlot post (fp, fc, nI S, fm, md, la, ar, pr, ra, rn, cv, sp, pl, al, ob, lk, ls, lp, lc, lv, lb, bs, bS, bE, bB, bN, bP, bD, kS, kV) (nI j) :=
  br_f (nI_pos (by omega)) (br_f (nI_ge hj (by omega)) H)
theorem tr_x_isSlot0 {v : Int32} (hv : v < 0 ∨ fs ≤ v) (H : post 0) : wpX_isSlot post (fp, fc, fs, fm, md, la, ar, pr, ra, rn, cv, sp, pl, al, ob, lk, ls, lp, lc, lv, lb, bs, bS, bE, bB, bN, bP, bD, kS, kV) v :=
  br_c (fun _ => H) (fun a => br_t (hv.resolve_left a) H)
theorem tr_x_isPage1 {P j : Nat} (hP : P ≤ 8) (hj : j < P) (H : post 1) : wpX_isPage post (nI P, fc, fs, fm, md, la, ar, pr, ra, rn, cv, sp, pl, al, ob, lk, ls, lp, lc, lv, lb, bs, bS, bE, bB, bN, bP, bD, kS, kV) (nI j) :=
  br_f (nI_pos (by omega)) (br_f (nI_ge hj (by omega)) H)
theorem tr_x_isPage0 {v : Int32} (hv : v < 0 ∨ fp ≤ v) (H : post 0) : wpX_isPage post (fp, fc, fs, fm, md, la, ar, pr, ra, rn, cv, sp, pl, al, ob, lk, ls, lp, lc, lv, lb, bs, bS, bE, bB, bN, bP, bD, kS, kV) v :=
  br_c (fun _ => H) (fun a => br_t (hv.resolve_left a) H)
theorem tr_c6 : nI 6 = 6 := by decide +kernel
theorem tr_x_isBackup1 {j : Nat} (hj : j < 6) (H : post 1) : wpX_isBackup post (fp, fc, fs, fm, md, la, ar, pr, ra, rn, cv, sp, pl, al, ob, lk, ls, lp, lc, lv, lb, bs, bS, bE, bB, bN, bP, bD, kS, kV) (nI j) :=
  br_f (nI_pos (by omega)) (br_f (by rw [← tr_c6]; exact nI_ge hj (by omega)) H)
theorem tr_x_isBackup0 {v : Int32} (hv : v < 0 ∨ nI 6 ≤ v) (H : post 0) : wpX_isBackup post (fp, fc, fs, fm, md, la, ar, pr, ra, rn, cv, sp, pl, al, ob, lk, ls, lp, lc, lv, lb, bs, bS, bE, bB, bN, bP, bD, kS, kV) v :=
  br_c (fun _ => H) (fun a => br_t (hv.resolve_left a) H)
theorem tr_x_isCell1 {P C g c : Nat} (hP : P ≤ 8) (hC : C ≤ 4) (hg : g < P) (hc : c < C) (H : post 1) : wpX_isCell post (nI P, nI C, fs, fm, md, la, ar, pr, ra, rn, cv, sp, pl, al, ob, lk, ls, lp, lc, lv, lb, bs, bS, bE, bB, bN, bP, bD, kS, kV) (nI g) (nI c) :=
  br_f (nI_pos (by omega)) (br_f (nI_ge hg (by omega)) (br_f (nI_pos (by omega)) (br_f (nI_ge hc (by omega)) H)))
theorem tr_x_isCell0 {v w : Int32} (hv : v < 0 ∨ fp ≤ v ∨ w < 0 ∨ fc ≤ w) (H : post 0) : wpX_isCell post (fp, fc, fs, fm, md, la, ar, pr, ra, rn, cv, sp, pl, al, ob, lk, ls, lp, lc, lv, lb, bs, bS, bE, bB, bN, bP, bD, kS, kV) v w :=
  br_c (fun _ => H) (fun a => br_c (fun _ => H) (fun b => br_c (fun _ => H) (fun c => br_t (((hv.resolve_left a).resolve_left b).resolve_left c) H)))
theorem tr_x_oc4 {h : Nat → tr_R} {S L : Nat} (hS : S ≤ 4) (hL : L ≤ 256) (ho : tr_Ob S h L ob) (H : post (nI (tr_oc h L S))) : ∀ n i, i ≤ S → S - i < n → wX_openCount_4 post fp fc (nI S) fm md la ar pr ra rn cv sp pl al ob lk ls lp lc lv lb bs bS bE bB bN bP bD kS kV n (nI (tr_oc h L i)) (nI i)
  | 0, _ => fun _ l => absurd l (by omega)
  | n + 1, i => by
    intro li ln
    by_cases ei : i = S
    · subst ei
      exact br_t (nI_le (by omega) (by omega)) H
    · have ih := tr_x_oc4 hS hL ho H n (i + 1) (by omega) (by omega)
      refine br_f (nI_ge (by omega) (by omega)) ⟨vp_in_nI (by omega) (by decide), ?_⟩
      rw [nI_clamp (show i < 2 ^ 31 by omega), ho i (by omega)]
      have lo := tr_op_le (h := h) (s := nI i) L
      by_cases z : tr_op h (nI i) L = 0
      · rw [show tr_oc h L (i + 1) = tr_oc h L i from (by show _ + tr_if _ _ _ = _; rw [tr_ift z, Nat.add_zero])] at ih
        exact br_t (by rw [z]; rfl) (nm_r (nI_1 i) ih)
      · rw [show tr_oc h L (i + 1) = tr_oc h L i + 1 from (by show _ + tr_if _ _ _ = _; rw [tr_iff z])] at ih
        exact br_f (nI_ne0 (by omega) (by omega)) (nm_r (nI_1 _) (nm_r (nI_1 i) ih))
theorem tr_x_openCount {h : Nat → tr_R} {S L : Nat} (hS : S ≤ 4) (hL : L ≤ 256) (ho : tr_Ob S h L ob) (H : post (nI (tr_oc h L S))) : wpX_openCount post (fp, fc, nI S, fm, md, la, ar, pr, ra, rn, cv, sp, pl, al, ob, lk, ls, lp, lc, lv, lb, bs, bS, bE, bB, bN, bP, bD, kS, kV) :=
  ⟨S + 1, tr_x_oc4 hS hL ho H (S + 1) 0 (by omega) (by omega)⟩
theorem tr_x_room {x : Int32} {L Q M r : Nat} (hx : x = nI r) (hL : L ≤ 256) (hQ : Q ≤ L) (hM : M ≤ 96) (hr : r < 100) (H0 : L + r ≤ 256 → L - Q + r ≤ M → post 0) (H6 : L + r ≤ 256 → M < L - Q + r → post (-6)) (H7 : 256 < L + r → post (-7)) : wpX_roomRefusal post (fp, fc, fs, nI M, md, nI L, ar, nI Q, ra, rn, cv, sp, pl, al, ob, lk, ls, lp, lc, lv, lb, bs, bS, bE, bB, bN, bP, bD, kS, kV) x := by
  subst hx
  exact pk_le (L + r) 256 (fun a => pk_le (L - Q + r) M (fun b => H0 a b) (fun b => H6 a b) (by rw [pk_sub hQ, nI_add])) (fun a => H7 a) (nI_add L r) tr_c256.symm
theorem tr_x_append {L : Nat} {k s g c v w : Int32} (hL : L ≤ 256) (H : pr2 (nI (L + 1)) (fp, fc, fs, fm, md, nI (L + 1), ar, pr, ra, rn, cv, sp, pl, al, ob, upd lk ((L + 1) % 96) k, upd ls ((L + 1) % 96) s, upd lp ((L + 1) % 96) g, upd lc ((L + 1) % 96) c, upd lv ((L + 1) % 96) v, upd lb ((L + 1) % 96) w, bs, bS, bE, bB, bN, bP, bD, kS, kV)) : wpX_append pr2 (fp, fc, fs, fm, md, nI L, ar, pr, ra, rn, cv, sp, pl, al, ob, lk, ls, lp, lc, lv, lb, bs, bS, bE, bB, bN, bP, bD, kS, kV) k s g c v w := by
  have hlt : (L + 1) % 96 < 96 := Nat.mod_lt _ (by decide)
  have hin : vp_in (nI ((L + 1) % 96)) 96 := vp_in_nI hlt (by decide)
  refine nm_r (nI_1 L) ⟨by decide, nm_r (tr_rem (by omega)) ?_⟩
  rw [nI_clamp (show (L + 1) % 96 < 2 ^ 31 by omega)]
  exact ⟨hin, nm_e ⟨hin, nm_e ⟨hin, nm_e ⟨hin, nm_e ⟨hin, nm_e ⟨hin, nm_e H⟩⟩⟩⟩⟩⟩
theorem tr_c32 : nI 32 = 32 := by decide +kernel
theorem tr_x_et15 {x : Int32} (H : ∀ pl' al' : Nat → Int32, (∀ j, j < 32 → pl' j = pl j &&& x) → (∀ j, j < 32 → al' j = al j &&& x) → pv (fp, fc, fs, fm, md, la, ar, pr, ra, rn, cv, sp, pl', al', ob, lk, ls, lp, lc, lv, lb, bs, bS, bE, bB, bN, bP, bD, kS, kV)) : ∀ (n i : Nat) (pl' al' : Nat → Int32), i ≤ 32 → 32 - i < n → (∀ j, j < i → pl' j = pl j &&& x) → (∀ j, i ≤ j → pl' j = pl j) → (∀ j, j < i → al' j = al j &&& x) → (∀ j, i ≤ j → al' j = al j) → wX_endTransaction_15 pv x fp fc fs fm md la ar pr ra rn n (nI i) cv sp pl' al' ob lk ls lp lc lv lb bs bS bE bB bN bP bD kS kV
  | 0, _, _, _ => fun _ l => absurd l (by omega)
  | n + 1, i, pl', al' => by
    intro li ln p1 p2 a1 a2
    by_cases ei : i = 32
    · subst ei
      exact br_t (by rw [← tr_c32]; exact nI_le (by omega) (by omega)) (H pl' al' p1 a1)
    · have hin : vp_in (nI i) 32 := vp_in_nI (by omega) (by decide)
      have ih := tr_x_et15 H n (i + 1) (upd pl' i (pl' i &&& x)) (upd al' i (al' i &&& x)) (by omega) (by omega)
        (fun j hj => by
          by_cases e : j = i
          · subst e; rw [pk_us, p2 j (Nat.le_refl j)]
          · rw [pk_un e, p1 j (by omega)])
        (fun j hj => by rw [pk_un (by omega), p2 j (by omega)])
        (fun j hj => by
          by_cases e : j = i
          · subst e; rw [pk_us, a2 j (Nat.le_refl j)]
          · rw [pk_un e, a1 j (by omega)])
        (fun j hj => by rw [pk_un (by omega), a2 j (by omega)])
      refine br_f (by rw [← tr_c32]; exact nI_ge (by omega) (by omega)) ?_
      rw [nI_clamp (show i < 2 ^ 31 by omega)]
      exact ⟨hin, hin, nm_e ⟨hin, hin, nm_e (nm_r (nI_1 i) ih)⟩⟩
theorem tr_x_endT {s : Nat} (hs : s < 4) (H : ∀ pl' al' : Nat → Int32, (∀ j, j < 32 → pl' j = pl j &&& (((1 : Int32) <<< (nI s &&& 31)) ^^^ (-1))) → (∀ j, j < 32 → al' j = al j &&& (((1 : Int32) <<< (nI s &&& 31)) ^^^ (-1))) → pv (fp, fc, fs, fm, md, la, ar, pr, ra, rn, cv, sp, pl', al', upd ob s 0, lk, ls, lp, lc, lv, lb, bs, bS, bE, bB, bN, bP, bD, kS, kV)) : wpX_endTransaction pv (fp, fc, fs, fm, md, la, ar, pr, ra, rn, cv, sp, pl, al, ob, lk, ls, lp, lc, lv, lb, bs, bS, bE, bB, bN, bP, bD, kS, kV) (nI s) := by
  refine ⟨vp_in_nI hs (by decide), ?_⟩
  rw [nI_clamp (show s < 2 ^ 31 by omega)]
  exact nm_e (nm_e ⟨33, tr_x_et15 (ob := upd ob s 0) H 33 0 pl al (by omega) (by omega) (fun j hj => absurd hj (by omega)) (fun j _ => rfl) (fun j hj => absurd hj (by omega)) (fun j _ => rfl)⟩)
/-- the pages that a slot has changed between two positions -/
def tr_Tm (h : Nat → tr_R) (s : Int32) (lo m N : Nat) (k : Int32) : Prop := ∀ i, i < 32 → (bt k i = true ↔ ∃ q, lo < q ∧ m < q ∧ q ≤ N ∧ (h q).2.1 = s ∧ (h q).2.2.1 = nI i)
theorem tr_x_tp8 {h : Nat → tr_R} {s : Int32} {lo N : Nat} (hN : N ≤ 300) (HR : ∀ q, lo < q → q ≤ N → ls (q % 96) = (h q).2.1 ∧ lp (q % 96) = (h q).2.2.1 ∧ ((h q).2.2.1 = -1 ∨ ∃ g, g < 32 ∧ (h q).2.2.1 = nI g)) (H : ∀ k, tr_Tm h s lo lo N k → post k) :
    ∀ (n m : Nat) (k : Int32), lo ≤ m → m ≤ N → m - lo < n → tr_Tm h s lo m N k → wX_touchedPages_8 post s (nI lo) fp fc fs fm md la ar pr ra rn cv sp pl al ob lk ls lp lc lv lb bs bS bE bB bN bP bD kS kV n k (nI m)
  | 0, _, _ => fun _ _ l => absurd l (by omega)
  | n + 1, m, k => by
    intro l1 l2 ln T
    by_cases em : m = lo
    · subst em
      exact br_t (nI_le (Nat.le_refl m) (by omega)) (H k T)
    · obtain ⟨m, rfl⟩ : ∃ i, m = i + 1 := ⟨m - 1, by omega⟩
      obtain ⟨r1, r2, r3⟩ := HR (m + 1) (by omega) l2
      have hlt : (m + 1) % 96 < 96 := Nat.mod_lt _ (by decide)
      have hin : vp_in (nI ((m + 1) % 96)) 96 := vp_in_nI hlt (by decide)
      have ih := fun k => tr_x_tp8 hN HR H n m k (by omega) (by omega) (by omega)
      have skip : ¬ ((h (m + 1)).2.1 = s ∧ ∃ g, g < 32 ∧ (h (m + 1)).2.2.1 = nI g) → tr_Tm h s lo m N k := fun z i hi => by
        rw [T i hi]
        constructor
        · rintro ⟨q, a, b, c⟩
          exact ⟨q, a, by omega, c⟩
        · rintro ⟨q, a, b, c, d, e⟩
          by_cases eq : q = m + 1
          · subst eq; exact absurd ⟨d, i, hi, e⟩ z
          · exact ⟨q, a, by omega, c, d, e⟩
      refine br_f (nI_ge (by omega) (by omega)) ⟨by decide, nm_r (tr_rem (by omega)) ⟨hin, ?_⟩⟩
      rw [nI_clamp (show (m + 1) % 96 < 2 ^ 31 by omega), r1, r2]
      by_cases e : (h (m + 1)).2.1 = s
      · rcases r3 with r3 | ⟨g, hg, r3⟩
        · rw [r3] at skip ⊢
          exact br_t e ⟨hin, br_t (by decide) (nm_r (pk_m1 m) (ih k (skip (fun z => by obtain ⟨_, g, hg, z⟩ := z; exact tr_m1ne (by omega) z))))⟩
        · rw [r3]
          refine br_t e ⟨hin, br_f (nI_pos (by omega)) ⟨hin, nm_e (nm_r (pk_m1 m) (ih _ (fun i hi => ?_)))⟩⟩
          rw [b_or, tr_bsh hg hi, Bool.or_eq_true, T i hi, decide_eq_true_eq]
          constructor
          · rintro (⟨q, a, b, c⟩ | z)
            · exact ⟨q, a, by omega, c⟩
            · subst z; exact ⟨m + 1, by omega, by omega, l2, e, r3⟩
          · rintro ⟨q, a, b, c, d, z⟩
            by_cases eq : q = m + 1
            · subst eq
              rw [r3, nI_eq (by omega) (by omega)] at z
              exact Or.inr z.symm
            · exact Or.inl ⟨q, a, by omega, c, d, z⟩
      · exact br_f e (nm_r (pk_m1 m) (ih k (skip (fun z => e z.1))))
theorem tr_x_touched {h : Nat → tr_R} {s x : Int32} {lo N : Nat} (hx : x = nI (N + 1)) (hl : lo ≤ N) (hN : N ≤ 300) (HR : ∀ q, lo < q → q ≤ N → ls (q % 96) = (h q).2.1 ∧ lp (q % 96) = (h q).2.2.1 ∧ ((h q).2.2.1 = -1 ∨ ∃ g, g < 32 ∧ (h q).2.2.1 = nI g)) (H : ∀ k, tr_Tm h s lo lo N k → post k) : wpX_touchedPages post (fp, fc, fs, fm, md, la, ar, pr, ra, rn, cv, sp, pl, al, ob, lk, ls, lp, lc, lv, lb, bs, bS, bE, bB, bN, bP, bD, kS, kV) s (nI lo) x := by
  subst hx
  refine nm_r (nI_pred N) ⟨N + 1, tr_x_tp8 hN HR H (N + 1) N 0 hl (Nat.le_refl N) (by omega) (fun i hi => ?_)⟩
  rw [b_0]
  exact ⟨fun z => absurd z (by decide), fun ⟨q, _, b, c, _⟩ => absurd b (by omega)⟩
/-- the cells while a slot is taken back -/
def tr_TI (P C : Nat) (h : Nat → tr_R) (D : Int32 → Prop) (s mk : Int32) (N m : Nat) (cv cv' : Nat → Int32) : Prop := ∀ g, g < P → ∀ c, c < C → (bt mk g = true → cv' (g * 4 + c) = tr_F h (nI g) (nI c) (tr_kE h D (fun t => t = s) N m) N) ∧ (bt mk g = false → cv' (g * 4 + c) = cv (g * 4 + c))
theorem tr_ix {g c g' c' : Nat} (hc : c < 4) (hc' : c' < 4) (e : g * 4 + c = g' * 4 + c') : g = g' ∧ c = c' := by omega
theorem tr_x_tb5 {P C S : Nat} {h : Nat → tr_R} {D : Int32 → Prop} {s mk : Int32} {N : Nat} (hP : P ≤ 8) (hC : C ≤ 4) (hN : N ≤ 300) (W : tr_wf P C S h N) (o0 : tr_op h s N ≠ 0) (dj : ¬ D s)
    (HR : ∀ q, tr_op h s N < q → q ≤ N → lk (q % 96) = (h q).1 ∧ ls (q % 96) = (h q).2.1 ∧ lp (q % 96) = (h q).2.2.1 ∧ lc (q % 96) = (h q).2.2.2.1 ∧ lv (q % 96) = (h q).2.2.2.2 ∧ ((h q).1 = 2 → lb (q % 96) = tr_fu h (h q).2.2.1 (h q).2.2.2.1 (q - 1)))
    (H : ∀ cv', tr_TI P C h D s mk N (tr_op h s N) cv cv' → pv (fp, fc, fs, fm, md, la, ar, pr, ra, rn, cv', sp, pl, al, ob, lk, ls, lp, lc, lv, lb, bs, bS, bE, bB, bN, bP, bD, kS, kV)) :
    ∀ (n m : Nat) (cv' : Nat → Int32), tr_op h s N ≤ m → m ≤ N → m - tr_op h s N < n → tr_TI P C h D s mk N m cv cv' → wX_takeBack_5 pv s (nI (tr_op h s N)) mk fp fc fs fm md la ar pr ra rn n (nI m) cv' sp pl al ob lk ls lp lc lv lb bs bS bE bB bN bP bD kS kV
  | 0, _, _ => fun _ _ l => absurd l (by omega)
  | n + 1, m, cv' => by
    intro l1 l2 ln T
    by_cases em : m = tr_op h s N
    · rw [← em] at H ⊢
      exact br_t (nI_le (Nat.le_refl m) (by omega)) (H cv' T)
    · obtain ⟨m, rfl⟩ : ∃ i, m = i + 1 := ⟨m - 1, by omega⟩
      obtain ⟨r1, r2, r3, r4, r5, r6⟩ := HR (m + 1) (by omega) l2
      have hlt : (m + 1) % 96 < 96 := Nat.mod_lt _ (by decide)
      have hin : vp_in (nI ((m + 1) % 96)) 96 := vp_in_nI hlt (by decide)
      have ih := tr_x_tb5 hP hC hN W o0 dj HR H n m
      have skip : (∀ g, g < P → ∀ c, c < C → bt mk g = true → ¬ (tr_on h (nI g) (nI c) (m + 1) ∧ tr_ft h (m + 1) N = 0 ∧ (h (m + 1)).2.1 = s)) → tr_TI P C h D s mk N m cv cv' := fun z g hg c hc => by
        obtain ⟨a, b⟩ := T g hg c hc
        exact ⟨fun y => (a y).trans (tr_Vn (E := fun t => t = s) (z g hg c hc y)).symm, b⟩
      refine br_f (nI_ge (by omega) (by omega)) ⟨by decide, nm_r (tr_rem (by omega)) ⟨hin, nm_e ⟨hin, ?_⟩⟩⟩
      rw [nI_clamp (show (m + 1) % 96 < 2 ^ 31 by omega), r2, r3]
      by_cases e : (h (m + 1)).2.1 = s
      · refine br_t e ?_
        have f0 : tr_ft h (m + 1) N = 0 := (tr_ft_op (by omega) N l2 W).mpr (by rw [e]; exact ⟨o0, by omega⟩)
        rcases (W (m + 1) (by omega) l2).2 with z | z | z
        · rw [z.2.2.1]
          refine br_t (by decide) (nm_r (pk_m1 m) (ih cv' (by omega) (by omega) (by omega) (skip (fun g hg c hc _ y => ?_))))
          exact tr_m1ne (show g < 2 ^ 31 by omega) (z.2.2.1.symm.trans y.1.1)
        · obtain ⟨k, _, ⟨g, hg, eg⟩, ⟨c, hc, ec⟩, _⟩ := z
          rw [eg]
          refine br_f (nI_pos (by omega)) ?_
          by_cases bb : bt mk g = true
          · refine br_f ((tr_bnz (by omega)).mpr bb) ⟨hin, ?_⟩
            rw [r4, ec, show nI g * 4 + nI c = nI (g * 4 + c) from by rw [← nI_add, ← pk_mul]; rfl]
            have hix : vp_in (nI (g * 4 + c)) 32 := vp_in_nI (by omega) (by decide)
            have o : tr_on h (nI g) (nI c) (m + 1) := ⟨eg, ec⟩
            have oth : ∀ x : Int32, x = tr_F h (nI g) (nI c) (tr_kE h D (fun t => t = s) N m) N → tr_TI P C h D s mk N m cv (upd cv' (g * 4 + c) x) := fun x hx g' hg' c' hc' => by
              obtain ⟨a, b⟩ := T g' hg' c' hc'
              by_cases ei : g' * 4 + c' = g * 4 + c
              · obtain ⟨rfl, rfl⟩ := tr_ix (by omega) (by omega) ei
                rw [pk_us]
                exact ⟨fun _ => hx, fun y => absurd (bb.symm.trans y) (by decide)⟩
              · rw [pk_un ei]
                refine ⟨fun y => (a y).trans (tr_Vn (E := fun t => t = s) (fun w => ei ?_)).symm, b⟩
                have e1 := (nI_eq (show g < 2 ^ 31 by omega) (show g' < 2 ^ 31 by omega)).mp (eg.symm.trans w.1.1)
                have e2 := (nI_eq (show c < 2 ^ 31 by omega) (show c' < 2 ^ 31 by omega)).mp (ec.symm.trans w.1.2)
                rw [e1, e2]
            refine nm_e ?_
            rw [nI_clamp (show g * 4 + c < 2 ^ 31 by omega), r1]
            refine ⟨hin, ?_⟩
            by_cases k2 : (h (m + 1)).1 = 2
            · refine br_t k2 ⟨hin, hix, nm_e (nm_r (pk_m1 m) (ih _ (by omega) (by omega) (by omega) (oth _ ?_)))⟩
              rw [r6 k2, eg, ec, Nat.add_sub_cancel]
              exact (tr_V2 (E := fun t => t = s) W (by omega) l2 o f0 e (fun t ht => by rw [ht]; exact dj) k2).symm
            · have k3 := k.resolve_left k2
              refine br_f k2 ⟨hix, hin, hix, nm_e (nm_r (pk_m1 m) (ih _ (by omega) (by omega) (by omega) (oth _ ?_)))⟩
              rw [r5, (T g hg c hc).1 bb]
              exact (tr_V3 (E := fun t => t = s) W (by omega) l2 o f0 e (fun t ht => by rw [ht]; exact dj) k3).symm
          · refine br_t ((tr_bz (by omega)).mpr (tr_bf bb)) (nm_r (pk_m1 m) (ih cv' (by omega) (by omega) (by omega) (skip (fun g' hg' c' hc' b' y => bb ?_))))
            rw [(nI_eq (show g < 2 ^ 31 by omega) (show g' < 2 ^ 31 by omega)).mp (eg.symm.trans y.1.1)]
            exact b'
        · rw [z.2.2.1]
          refine br_t (by decide) (nm_r (pk_m1 m) (ih cv' (by omega) (by omega) (by omega) (skip (fun g hg c hc _ y => ?_))))
          exact tr_m1ne (show g < 2 ^ 31 by omega) (z.2.2.1.symm.trans y.1.1)
      · exact br_f e (nm_r (pk_m1 m) (ih cv' (by omega) (by omega) (by omega) (skip (fun g _ c _ _ y => e y.2.2))))
/-- a slot's changes taken back on the pages of the mask -/
theorem tr_x_takeBack {P C S : Nat} {h : Nat → tr_R} {D : Int32 → Prop} {s mk lo x : Int32} {N : Nat} (hlo : lo = nI (tr_op h s N)) (hx : x = nI (N + 1)) (hP : P ≤ 8) (hC : C ≤ 4) (hN : N ≤ 300) (W : tr_wf P C S h N) (o0 : tr_op h s N ≠ 0) (dj : ¬ D s)
    (HR : ∀ q, tr_op h s N < q → q ≤ N → lk (q % 96) = (h q).1 ∧ ls (q % 96) = (h q).2.1 ∧ lp (q % 96) = (h q).2.2.1 ∧ lc (q % 96) = (h q).2.2.2.1 ∧ lv (q % 96) = (h q).2.2.2.2 ∧ ((h q).1 = 2 → lb (q % 96) = tr_fu h (h q).2.2.1 (h q).2.2.2.1 (q - 1)))
    (T : ∀ g, g < P → ∀ c, c < C → bt mk g = true → cv (g * 4 + c) = tr_F h (nI g) (nI c) (tr_kD h D N) N)
    (H : ∀ cv', (∀ g, g < P → ∀ c, c < C → (bt mk g = true → cv' (g * 4 + c) = tr_F h (nI g) (nI c) (tr_kD h (fun t => D t ∨ t = s) N) N) ∧ (bt mk g = false → cv' (g * 4 + c) = cv (g * 4 + c))) → pv (fp, fc, fs, fm, md, la, ar, pr, ra, rn, cv', sp, pl, al, ob, lk, ls, lp, lc, lv, lb, bs, bS, bE, bB, bN, bP, bD, kS, kV)) :
    wpX_takeBack pv (fp, fc, fs, fm, md, la, ar, pr, ra, rn, cv, sp, pl, al, ob, lk, ls, lp, lc, lv, lb, bs, bS, bE, bB, bN, bP, bD, kS, kV) s lo x mk := by
  subst hlo hx
  refine nm_r (nI_pred N) ⟨N + 1, tr_x_tb5 (D := D) (cv := cv) hP hC hN W o0 dj HR (fun cv' T' => H cv' (fun g hg c hc => ?_)) (N + 1) N cv (tr_op_le N) (Nat.le_refl N) (by omega) (fun g hg c hc => ?_)⟩
  · obtain ⟨a, b⟩ := T' g hg c hc
    refine ⟨fun y => (a y).trans (tr_V1 (E := fun t => t = s) (fun q h1 h2 o f e => ?_)), b⟩
    have w := (tr_ft_op h1 N h2 W).mp f
    have k := (tr_on_k W (show g < 2 ^ 31 by omega) h1 h2 o).1
    have b1 := (tr_op_sp N w.1).1
    rw [show (h q).2.1 = s from e] at w b1
    by_cases eq : tr_op h s N = q
    · rw [eq] at b1
      rcases k with k | k <;> exact absurd (b1.symm.trans k) (by decide)
    · omega
  · exact ⟨fun y => (T g hg c hc y).trans tr_V0.symm, fun _ => rfl⟩
theorem tr_x_sp2 {P : Nat} {k x : Int32} (hP : P ≤ 8) (H : ∀ sp' : Nat → Int32, (∀ g, g < P → (bt k g = true → sp' g = x) ∧ (bt k g = false → sp' g = sp g)) → pv (nI P, fc, fs, fm, md, la, ar, pr, ra, rn, cv, sp', pl, al, ob, lk, ls, lp, lc, lv, lb, bs, bS, bE, bB, bN, bP, bD, kS, kV)) : ∀ (n i : Nat) (sp' : Nat → Int32), i ≤ P → P - i < n → (∀ g, g < i → (bt k g = true → sp' g = x) ∧ (bt k g = false → sp' g = sp g)) → (∀ g, i ≤ g → sp' g = sp g) → wX_stampPages_2 pv k x (nI P) fc fs fm md la ar pr ra rn n (nI i) cv sp' pl al ob lk ls lp lc lv lb bs bS bE bB bN bP bD kS kV
  | 0, _, _ => fun _ l => absurd l (by omega)
  | n + 1, i, sp' => by
    intro li ln a b
    by_cases ei : i = P
    · subst ei
      exact br_t (nI_le (Nat.le_refl i) (by omega)) (H sp' a)
    · refine br_f (nI_ge (by omega) (by omega)) ?_
      have ih := tr_x_sp2 hP H n (i + 1)
      by_cases bb : bt k i = true
      · refine br_f ((tr_bnz (by omega)).mpr bb) ⟨vp_in_nI (by omega) (by decide), ?_⟩
        rw [nI_clamp (show i < 2 ^ 31 by omega)]
        refine nm_e (nm_r (nI_1 i) (ih _ (by omega) (by omega) (fun g hg => ?_) (fun g hg => by rw [pk_un (by omega)]; exact b g (by omega))))
        by_cases eg : g = i
        · subst eg; rw [pk_us]; exact ⟨fun _ => rfl, fun y => absurd (bb.symm.trans y) (by decide)⟩
        · rw [pk_un eg]; exact a g (by omega)
      · refine br_t ((tr_bz (by omega)).mpr (tr_bf bb)) (nm_r (nI_1 i) (ih _ (by omega) (by omega) (fun g hg => ?_) (fun g hg => b g (by omega))))
        by_cases eg : g = i
        · subst eg; exact ⟨fun y => absurd y bb, fun _ => b g (Nat.le_refl g)⟩
        · exact a g (by omega)
theorem tr_x_stampPages {P : Nat} {k x : Int32} (hP : P ≤ 8) (H : ∀ sp' : Nat → Int32, (∀ g, g < P → (bt k g = true → sp' g = x) ∧ (bt k g = false → sp' g = sp g)) → pv (nI P, fc, fs, fm, md, la, ar, pr, ra, rn, cv, sp', pl, al, ob, lk, ls, lp, lc, lv, lb, bs, bS, bE, bB, bN, bP, bD, kS, kV)) : wpX_stampPages pv (nI P, fc, fs, fm, md, la, ar, pr, ra, rn, cv, sp, pl, al, ob, lk, ls, lp, lc, lv, lb, bs, bS, bE, bB, bN, bP, bD, kS, kV) k x :=
  ⟨P + 1, tr_x_sp2 hP H (P + 1) 0 sp (by omega) (by omega) (fun g hg => absurd hg (by omega)) (fun _ _ => rfl)⟩
end
end
section
/-! one more record: what becomes of the relation's parts -/
/-- h' is h with record r at L + 1 -/
def tr_Ap (h h' : Nat → tr_R) (L : Nat) (r : tr_R) : Prop := (∀ q, q ≤ L → h' q = h q) ∧ h' (L + 1) = r
theorem tr_Ap_mk {yk yl yp yc yv : Nat → Int32} {L : Nat} {k s g c v : Int32} : tr_Ap (tr_h yk yl yp yc yv) (tr_h (upd yk (L + 1) k) (upd yl (L + 1) s) (upd yp (L + 1) g) (upd yc (L + 1) c) (upd yv (L + 1) v)) L (k, s, g, c, v) := by
  constructor
  · intro q hq
    unfold tr_h
    rw [pk_un (by omega), pk_un (by omega), pk_un (by omega), pk_un (by omega), pk_un (by omega)]
  · unfold tr_h
    rw [pk_us, pk_us, pk_us, pk_us, pk_us]
theorem tr_oc_one {h h' : Nat → tr_R} {n n' j T : Nat} (O : ∀ s, s < T → s ≠ j → (tr_op h' (nI s) n' = 0 ↔ tr_op h (nI s) n = 0)) : ∀ S, S ≤ T → (S ≤ j → tr_oc h' n' S = tr_oc h n S) ∧ (j < S → tr_oc h' n' S + tr_if (tr_op h (nI j) n = 0) 0 1 = tr_oc h n S + tr_if (tr_op h' (nI j) n' = 0) 0 1)
  | 0 => fun _ => ⟨fun _ => rfl, fun z => absurd z (by omega)⟩
  | S + 1 => by
    intro l
    obtain ⟨a, b⟩ := tr_oc_one O S (by omega)
    have e1 : tr_oc h' n' (S + 1) = tr_oc h' n' S + tr_if (tr_op h' (nI S) n' = 0) 0 1 := rfl
    have e2 : tr_oc h n (S + 1) = tr_oc h n S + tr_if (tr_op h (nI S) n = 0) 0 1 := rfl
    constructor
    · intro z
      rw [e1, e2, a (by omega), tr_ifc (O S (by omega) (by omega))]
    · intro z
      by_cases e : S = j
      · subst e
        have := a (Nat.le_refl S)
        omega
      · have e3 : tr_if (tr_op h' (nI S) n' = 0) 0 1 = tr_if (tr_op h (nI S) n = 0) 0 1 := tr_ifc (O S (by omega) e)
        have := b (by omega)
        omega
theorem tr_oc_pos {h : Nat → tr_R} {n j : Nat} (o : tr_op h (nI j) n ≠ 0) : ∀ S, j < S → 1 ≤ tr_oc h n S
  | 0 => fun l => absurd l (by omega)
  | S + 1 => by
    intro l
    have e : tr_oc h n (S + 1) = tr_oc h n S + tr_if (tr_op h (nI S) n = 0) 0 1 := rfl
    by_cases ej : j = S
    · subst ej
      rw [tr_iff o] at e
      omega
    · have := tr_oc_pos o S (by omega)
      omega
theorem tr_oc_le {h : Nat → tr_R} {n : Nat} : ∀ S, tr_oc h n S ≤ S
  | 0 => Nat.le_refl 0
  | S + 1 => by
    have := tr_oc_le (h := h) (n := n) S
    have e : tr_oc h n (S + 1) = tr_oc h n S + tr_if (tr_op h (nI S) n = 0) 0 1 := rfl
    by_cases z : tr_op h (nI S) n = 0
    · rw [tr_ift z] at e; omega
    · rw [tr_iff z] at e; omega
section
variable {P C S M Q L A : Nat} {h h' : Nat → tr_R} {r : tr_R} {cv sp pl al ob : Nat → Int32}
theorem tr_Ap_op (a : tr_Ap h h' L r) (s : Int32) : tr_op h' s L = tr_op h s L := tr_op_cg L a.1
theorem tr_Ap_opo (a : tr_Ap h h' L r) {s : Int32} (e : ¬ r.2.1 = s) : tr_op h' s (L + 1) = tr_op h s L := (tr_op_o (by rw [a.2]; exact e)).trans (tr_Ap_op a s)
theorem tr_Ap_opb (a : tr_Ap h h' L r) (k : r.1 = 1) : tr_op h' r.2.1 (L + 1) = L + 1 := tr_op_b (by rw [a.2]) (by rw [a.2]; exact k)
theorem tr_Ap_ope (a : tr_Ap h h' L r) (k : r.1 = 4 ∨ r.1 = 5) : tr_op h' r.2.1 (L + 1) = 0 := tr_op_e (by rw [a.2]) (by rw [a.2]; exact k)
theorem tr_Ap_opc (a : tr_Ap h h' L r) (k : r.1 = 2 ∨ r.1 = 3) (s : Int32) : tr_op h' s (L + 1) = tr_op h s L := by
  have e1 : ¬ r.1 = 1 := by rcases k with k | k <;> rw [k] <;> decide
  have e4 : ¬ r.1 = 4 := by rcases k with k | k <;> rw [k] <;> decide
  have e5 : ¬ r.1 = 5 := by rcases k with k | k <;> rw [k] <;> decide
  exact (tr_op_c (by rw [a.2]; exact e1) (by rw [a.2]; exact e4) (by rw [a.2]; exact e5)).trans (tr_Ap_op a s)
theorem tr_Ap_ft (a : tr_Ap h h' L r) {q : Nat} (l : q ≤ L) : tr_ft h' q L = tr_ft h q L := tr_ft_cg (a.1 q l) L a.1
theorem tr_Ap_ftn (a : tr_Ap h h' L r) (k : ¬ (r.1 = 4 ∨ r.1 = 5)) {q : Nat} (l : q ≤ L) : tr_ft h' q (L + 1) = tr_ft h q L := (tr_ft_n (by rw [a.2]; exact k)).trans (tr_Ap_ft a l)
theorem tr_Ap_fto (a : tr_Ap h h' L r) {q : Nat} (l : q ≤ L) (e : ¬ r.2.1 = (h q).2.1) : tr_ft h' q (L + 1) = tr_ft h q L := (tr_ft_o (by rw [a.2, a.1 q l]; exact e)).trans (tr_Ap_ft a l)
theorem tr_Ap_Ce (a : tr_Ap h h' L r) (k : ¬ r.1 = 5) (pg : r.2.2.1 = -1) (hP : P ≤ 8) (X : tr_Ce P C (fun g c => tr_fu h g c L) cv) : tr_Ce P C (fun g c => tr_fu h' g c (L + 1)) cv := by
  intro g hg c hc
  rw [X g hg c hc]
  show tr_fu h (nI g) (nI c) L = tr_fu h' (nI g) (nI c) (L + 1)
  rw [tr_fu_n (h := h') (fun o => tr_m1ne (show g < 2 ^ 31 by omega) (pg.symm.trans (by rw [← a.2]; exact o.1))) (by rw [a.2]; exact k), tr_fu_cg L a.1]
theorem tr_Ap_Sp (a : tr_Ap h h' L r) (k : ¬ r.1 = 5) (pg : r.2.2.1 = -1) (hP : P ≤ 8) (X : tr_Sp P h L sp) : tr_Sp P h' (L + 1) sp := by
  intro g hg
  rw [X g hg, tr_st_n (h := h') (fun t => ?_), tr_st_cg L a.1]
  rcases t with t | t
  · rw [a.2] at t
    exact tr_m1ne (show g < 2 ^ 31 by omega) (pg.symm.trans t)
  · rw [a.2] at t
    exact k t.1
theorem tr_Ap_Ob {j x : Nat} (a : tr_Ap h h' L r) (e : r.2.1 = nI j) (hS : S ≤ 4) (hj : j < S) (X : tr_Ob S h L ob) (o : tr_op h' (nI j) (L + 1) = x) : tr_Ob S h' (L + 1) (upd ob j (nI x)) := by
  intro s hs
  by_cases es : s = j
  · subst es; rw [pk_us, o]
  · rw [pk_un es, X s hs, tr_Ap_opo a]
    rw [e, nI_eq (by omega) (by omega)]
    exact fun z => es z.symm
/-- an end of a transaction frees its locks -/
theorem tr_Ap_Lke {j : Nat} {k : Int32} {pl' : Nat → Int32} (a : tr_Ap h h' L r) (e : r.2.1 = nI j) (kk : r.1 = 4 ∨ r.1 = 5) (pg : r.2.2.1 = -1) (hP : P ≤ 8) (hC : C ≤ 4) (hj : j < 4) (X : tr_Lk P C h L k pl) (Y : ∀ i, i < 32 → pl' i = pl i &&& (((1 : Int32) <<< (nI j &&& 31)) ^^^ (-1))) : tr_Lk P C h' (L + 1) k pl' := by
  intro g hg c hc i hi
  rw [Y _ (by omega), b_and, tr_bnot _ hi, tr_bsh (by omega) hi, Bool.and_eq_true, X g hg c hc i hi]
  constructor
  · rintro ⟨⟨q, h1, h2, h3, h4, h5, h6⟩, hne⟩
    have ne : ¬ i = j := fun z => by subst z; simp at hne
    refine ⟨q, h1, by omega, ?_, ?_, ?_, ?_⟩
    · unfold tr_on; rw [a.1 q h2]; exact h3
    · rw [a.1 q h2]; exact h4
    · rw [a.1 q h2]; exact h5
    · rw [tr_Ap_fto a h2]
      · exact h6
      · rw [e, h4, nI_eq (by omega) (by omega)]
        exact fun z => ne z.symm
  · rintro ⟨q, h1, h2, h3, h4, h5, h6⟩
    by_cases eq : q = L + 1
    · subst eq
      unfold tr_on at h3
      rw [a.2] at h3
      exact absurd (pg.symm.trans h3.1) (tr_m1ne (by omega))
    · have l : q ≤ L := by omega
      unfold tr_on at h3
      rw [a.1 q l] at h3 h4 h5
      have f0 : tr_ft h' q L = 0 := tr_ft_dn h6 (by omega)
      have ne : ¬ i = j := fun z => by
        subst z
        rw [tr_ft_e (h := h') f0 (by omega) (by rw [a.2, a.1 q l, e, h4]) (by rw [a.2]; exact kk), a.2] at h6
        rcases kk with kk | kk <;> (rw [kk] at h6; exact absurd h6 (by decide))
      exact ⟨⟨q, h1, l, h3, h4, h5, by rw [← tr_Ap_ft a l]; exact f0⟩, by rw [decide_eq_false ne]; rfl⟩
/-- a BEGIN leaves the locks -/
theorem tr_Ap_Lkb {k : Int32} (a : tr_Ap h h' L r) (kk : r.1 = 1) (pg : r.2.2.1 = -1) (hP : P ≤ 8) (X : tr_Lk P C h L k pl) : tr_Lk P C h' (L + 1) k pl := by
  have k4 : ¬ (r.1 = 4 ∨ r.1 = 5) := by rw [kk]; decide
  intro g hg c hc i hi
  rw [X g hg c hc i hi]
  constructor
  · rintro ⟨q, h1, h2, h3, h4, h5, h6⟩
    refine ⟨q, h1, by omega, ?_, ?_, ?_, ?_⟩
    · unfold tr_on; rw [a.1 q h2]; exact h3
    · rw [a.1 q h2]; exact h4
    · rw [a.1 q h2]; exact h5
    · rw [tr_Ap_ftn a k4 h2]; exact h6
  · rintro ⟨q, h1, h2, h3, h4, h5, h6⟩
    by_cases eq : q = L + 1
    · subst eq
      unfold tr_on at h3
      rw [a.2] at h3
      exact absurd (pg.symm.trans h3.1) (tr_m1ne (by omega))
    · have l : q ≤ L := by omega
      unfold tr_on at h3
      rw [a.1 q l] at h3 h4 h5
      exact ⟨q, h1, l, h3, h4, h5, by rw [← tr_Ap_ftn a k4 l]; exact h6⟩
/-- a change of cell (g0, c0) by slot j: the locks of another kind -/
theorem tr_Ap_Lko {k : Int32} (a : tr_Ap h h' L r) (kk : r.1 = 2 ∨ r.1 = 3) (ne : ¬ r.1 = k) (X : tr_Lk P C h L k pl) : tr_Lk P C h' (L + 1) k pl := by
  have k4 : ¬ (r.1 = 4 ∨ r.1 = 5) := by rcases kk with kk | kk <;> rw [kk] <;> decide
  intro g hg c hc i hi
  rw [X g hg c hc i hi]
  constructor
  · rintro ⟨q, h1, h2, h3, h4, h5, h6⟩
    refine ⟨q, h1, by omega, ?_, ?_, ?_, ?_⟩
    · unfold tr_on; rw [a.1 q h2]; exact h3
    · rw [a.1 q h2]; exact h4
    · rw [a.1 q h2]; exact h5
    · rw [tr_Ap_ftn a k4 h2]; exact h6
  · rintro ⟨q, h1, h2, h3, h4, h5, h6⟩
    by_cases eq : q = L + 1
    · subst eq
      rw [a.2] at h5
      exact absurd h5 ne
    · have l : q ≤ L := by omega
      unfold tr_on at h3
      rw [a.1 q l] at h3 h4 h5
      exact ⟨q, h1, l, h3, h4, h5, by rw [← tr_Ap_ftn a k4 l]; exact h6⟩
/-- .. and of its own kind -/
theorem tr_Ap_Lkc {k v : Int32} {j g0 c0 : Nat} (a : tr_Ap h h' L (k, nI j, nI g0, nI c0, v)) (kk : k = 2 ∨ k = 3) (hP : P ≤ 8) (hC : C ≤ 4) (hj : j < 4) (hg0 : g0 < P) (hc0 : c0 < C) (X : tr_Lk P C h L k pl) : tr_Lk P C h' (L + 1) k (upd pl (g0 * 4 + c0) (pl (g0 * 4 + c0) ||| ((1 : Int32) <<< (nI j &&& 31)))) := by
  have k4 : ¬ (k = 4 ∨ k = 5) := by rcases kk with kk | kk <;> rw [kk] <;> decide
  have f1 : tr_ft h' (L + 1) (L + 1) = 0 := (tr_ft_n (by rw [a.2]; exact k4)).trans (tr_ft_lt L (by omega))
  intro g hg c hc i hi
  have old : (∃ q, 1 ≤ q ∧ q ≤ L ∧ tr_on h (nI g) (nI c) q ∧ (h q).2.1 = nI i ∧ (h q).1 = k ∧ tr_ft h q L = 0) ↔ (∃ q, 1 ≤ q ∧ q ≤ L ∧ tr_on h' (nI g) (nI c) q ∧ (h' q).2.1 = nI i ∧ (h' q).1 = k ∧ tr_ft h' q (L + 1) = 0) := by
    constructor
    · rintro ⟨q, h1, h2, h3, h4, h5, h6⟩
      refine ⟨q, h1, h2, ?_, ?_, ?_, ?_⟩
      · unfold tr_on; rw [a.1 q h2]; exact h3
      · rw [a.1 q h2]; exact h4
      · rw [a.1 q h2]; exact h5
      · rw [tr_Ap_ftn a k4 h2]; exact h6
    · rintro ⟨q, h1, l, h3, h4, h5, h6⟩
      unfold tr_on at h3
      rw [a.1 q l] at h3 h4 h5
      exact ⟨q, h1, l, h3, h4, h5, by rw [← tr_Ap_ftn a k4 l]; exact h6⟩
  have new : (bt (upd pl (g0 * 4 + c0) (pl (g0 * 4 + c0) ||| ((1 : Int32) <<< (nI j &&& 31))) (g * 4 + c)) i = true) ↔ (bt (pl (g * 4 + c)) i = true ∨ (g = g0 ∧ c = c0 ∧ i = j)) := by
    by_cases e : g * 4 + c = g0 * 4 + c0
    · obtain ⟨rfl, rfl⟩ := tr_ix (by omega) (by omega) e
      rw [pk_us, b_or, tr_bsh (by omega) hi, Bool.or_eq_true, decide_eq_true_eq]
      exact ⟨fun z => z.elim Or.inl (fun y => Or.inr ⟨rfl, rfl, y⟩), fun z => z.elim Or.inl (fun y => Or.inr y.2.2)⟩
    · rw [pk_un e]
      exact ⟨Or.inl, fun z => z.elim id (fun y => absurd (by rw [y.1, y.2.1]) e)⟩
  rw [new, X g hg c hc i hi, old]
  constructor
  · rintro (⟨q, h1, h2, h3⟩ | ⟨rfl, rfl, rfl⟩)
    · exact ⟨q, h1, by omega, h3⟩
    · refine ⟨L + 1, by omega, by omega, ?_, ?_, ?_, f1⟩
      · unfold tr_on; rw [a.2]; exact ⟨rfl, rfl⟩
      · rw [a.2]
      · rw [a.2]
  · rintro ⟨q, h1, h2, h3, h4, h5, h6⟩
    by_cases eq : q = L + 1
    · subst eq
      unfold tr_on at h3
      rw [a.2] at h3 h4
      exact Or.inr ⟨((nI_eq (by omega) (by omega)).mp h3.1).symm, ((nI_eq (by omega) (by omega)).mp h3.2).symm, ((nI_eq (by omega) (by omega)).mp h4).symm⟩
    · exact Or.inl ⟨q, h1, by omega, h3, h4, h5, h6⟩
theorem tr_Ap_Rg {k s g c v w : Int32} {lk ls lp lc lv lb : Nat → Int32} (a : tr_Ap h h' L (k, s, g, c, v)) (X : tr_Rg h Q L lk ls lp lc lv lb) (hQ : L + 1 ≤ Q + 96) (hw : k = 2 → w = tr_fu h g c L) : tr_Rg h' Q (L + 1) (upd lk ((L + 1) % 96) k) (upd ls ((L + 1) % 96) s) (upd lp ((L + 1) % 96) g) (upd lc ((L + 1) % 96) c) (upd lv ((L + 1) % 96) v) (upd lb ((L + 1) % 96) w) := by
  intro q h1 h2
  by_cases eq : q = L + 1
  · subst eq
    rw [a.2, pk_us, pk_us, pk_us, pk_us, pk_us, pk_us]
    refine ⟨rfl, rfl, rfl, rfl, rfl, fun z => ?_⟩
    rw [hw z, Nat.add_sub_cancel]
    exact (tr_fu_cg L a.1).symm
  · have l : q ≤ L := by omega
    have ne : q % 96 ≠ (L + 1) % 96 := by omega
    obtain ⟨x1, x2, x3, x4, x5, x6⟩ := X q h1 l
    rw [a.1 q l, pk_un ne, pk_un ne, pk_un ne, pk_un ne, pk_un ne, pk_un ne]
    refine ⟨x1, x2, x3, x4, x5, fun z => ?_⟩
    rw [x6 z]
    exact (tr_fu_cg (q - 1) (fun r hr => a.1 r (by omega))).symm
theorem tr_Ap_Rm (a : tr_Ap h h' L r) (X : tr_Rm S M Q h L) (n1 : L + 1 + tr_oc h' (L + 1) S ≤ 256) (n2 : L + 1 + tr_oc h' (L + 1) S ≤ M + Q) : tr_Rm S M Q h' (L + 1) := by
  intro p hp
  by_cases e : p = L + 1
  · subst e; exact ⟨n1, n2⟩
  · rw [tr_oc_cg (fun q hq => a.1 q (by omega))]
    exact X p (by omega)
theorem tr_Ap_wf (a : tr_Ap h h' L r) (X : tr_wf P C S h L) (o : tr_ok P C S h' (L + 1)) : tr_wf P C S h' (L + 1) := by
  intro q h1 h2
  by_cases e : q = L + 1
  · subst e; exact o
  · exact tr_ok_cg (fun r hr => a.1 r (by omega)) (X q h1 (by omega))
end
/-- the backups know the history up to their own positions alone -/
theorem tr_Bk_cg {P C S L L' : Nat} {h h' : Nat → tr_R} {bs bS bE bB bN bP bD kS kV zs zS zE zB zN zC : Nat → Int32} {eS eN eE rk : Nat → Nat} (E : ∀ q, q ≤ L → h' q = h q) (l : L ≤ L') (X : tr_Bk P C S h L bs bS bE bB bN bP bD kS kV zs zS zE zB zN zC eS eN eE rk) : tr_Bk P C S h' L' bs bS bE bB bN bP bD kS kV zs zS zE zB zN zC eS eN eE rk := by
  intro b hb
  obtain ⟨x1, x2, x3⟩ := X b hb
  refine ⟨x1, x2, fun z => ?_⟩
  obtain ⟨⟨a1, a2, a3⟩, ⟨b1, b2, b3, b4, b5⟩, ⟨c1, c2, c3⟩, ⟨d1, d2⟩, e1, f1⟩ := x3 z
  refine ⟨⟨a1, a2, by omega⟩, ⟨b1, b2, b3, b4, fun s hs => ?_⟩, ⟨c1, fun y => ?_, c3⟩, ⟨d1, ?_⟩, e1, fun g hg => ?_⟩
  · rw [tr_op_cg (eS b) (fun q hq => E q (by omega))]
    exact b5 s hs
  · obtain ⟨y1, y2, y3⟩ := c2 y
    exact ⟨y1, y2, by omega⟩
  · rcases d2 with d | ⟨B, d1, d2, d3, d4, d5, d6⟩
    · exact Or.inl d
    · refine Or.inr ⟨B, d1, d2, d3, d4, d5, fun g hg y => ?_⟩
      rw [tr_st_cg (eS b) (fun q hq => E q (by omega))]
      exact d6 g hg y
  · rcases f1 g hg with y | y | ⟨K, y1, y2, y3, y4, y5, y6, y7, y8⟩
    · exact Or.inl y
    · exact Or.inr (Or.inl y)
    · refine Or.inr (Or.inr ⟨K, y1, y2, by omega, y4, y5, y6, ?_, fun c hc => ?_⟩)
      · rw [tr_st_cg K (fun q hq => E q (by omega))]; exact y7
      · rw [tr_fu_cg K (fun q hq => E q (by omega))]; exact y8 c hc
theorem tr_Rel_app {P C S M L A Q : Nat} {ra rn re : Int32} {cv sp pl al ob lk ls lp lc lv lb bs bS bE bB bN bP bD kS kV yk yl yp yc yv zs zS zE zB zN zC cv' sp' pl' al' ob' : Nat → Int32} {k s g c v w : Int32}
    (R : tr_Rel P C S M L A Q 0 ra rn cv sp pl al ob lk ls lp lc lv lb bs bS bE bB bN bP bD kS kV re yk yl yp yc yv zs zS zE zB zN zC) (hw : k = 2 → w = tr_fu (tr_h yk yl yp yc yv) g c L)
    (n1 : L + 1 + tr_oc (tr_h (upd yk (L + 1) k) (upd yl (L + 1) s) (upd yp (L + 1) g) (upd yc (L + 1) c) (upd yv (L + 1) v)) (L + 1) S ≤ 256)
    (n2 : L + 1 + tr_oc (tr_h (upd yk (L + 1) k) (upd yl (L + 1) s) (upd yp (L + 1) g) (upd yc (L + 1) c) (upd yv (L + 1) v)) (L + 1) S ≤ M + Q)
    (o : tr_ok P C S (tr_h (upd yk (L + 1) k) (upd yl (L + 1) s) (upd yp (L + 1) g) (upd yc (L + 1) c) (upd yv (L + 1) v)) (L + 1))
    (lv' : tr_Live P C S (tr_h (upd yk (L + 1) k) (upd yl (L + 1) s) (upd yp (L + 1) g) (upd yc (L + 1) c) (upd yv (L + 1) v)) (L + 1) A Q cv' sp' pl' al' ob') :
    tr_Rel P C S M (L + 1) A Q 0 ra rn cv' sp' pl' al' ob' (upd lk ((L + 1) % 96) k) (upd ls ((L + 1) % 96) s) (upd lp ((L + 1) % 96) g) (upd lc ((L + 1) % 96) c) (upd lv ((L + 1) % 96) v) (upd lb ((L + 1) % 96) w) bs bS bE bB bN bP bD kS kV re (upd yk (L + 1) k) (upd yl (L + 1) s) (upd yp (L + 1) g) (upd yc (L + 1) c) (upd yv (L + 1) v) zs zS zE zB zN zC := by
  obtain ⟨hz, hwf, hr, hg, ⟨eS, eN, eE, rk, hb⟩, hn, hm⟩ := R
  have a := tr_Ap_mk (yk := yk) (yl := yl) (yp := yp) (yc := yc) (yv := yv) (L := L) (k := k) (s := s) (g := g) (c := c) (v := v)
  have hM : M ≤ 96 := hz.2.2.2.2.2.2.2
  exact ⟨hz, tr_Ap_wf a hwf o, tr_Ap_Rm a hr n1 n2, tr_Ap_Rg a hg (by omega) hw, ⟨eS, eN, eE, rk, tr_Bk_cg a.1 (by omega) hb⟩, hn, Or.inl ⟨rfl, lv'⟩⟩
section
variable {P C S M Q L A : Nat} {h h' : Nat → tr_R} {r : tr_R} {j : Nat}
theorem tr_Ap_one (a : tr_Ap h h' L r) (e : r.2.1 = nI j) (hS : S ≤ 4) (hj : j < S) : tr_oc h' (L + 1) S + tr_if (tr_op h (nI j) L = 0) 0 1 = tr_oc h L S + tr_if (tr_op h' (nI j) (L + 1) = 0) 0 1 := by
  refine (tr_oc_one (h := h) (h' := h') (n := L) (n' := L + 1) (j := j) (T := S) (fun s hs es => ?_) S (Nat.le_refl S)).2 hj
  rw [tr_Ap_opo a]
  rw [e, nI_eq (by omega) (by omega)]
  exact fun z => es z.symm
theorem tr_Ap_ocb (a : tr_Ap h h' L r) (e : r.2.1 = nI j) (k : r.1 = 1) (hS : S ≤ 4) (hj : j < S) (o : tr_op h (nI j) L = 0) : tr_oc h' (L + 1) S = tr_oc h L S + 1 := by
  have := tr_Ap_one a e hS hj
  rw [tr_ift o, tr_iff (by rw [← e, tr_Ap_opb a k]; omega)] at this
  exact this
theorem tr_Ap_oce (a : tr_Ap h h' L r) (e : r.2.1 = nI j) (k : r.1 = 4 ∨ r.1 = 5) (hS : S ≤ 4) (hj : j < S) (o : tr_op h (nI j) L ≠ 0) : tr_oc h' (L + 1) S + 1 = tr_oc h L S := by
  have := tr_Ap_one a e hS hj
  rw [tr_iff o, tr_ift (by rw [← e, tr_Ap_ope a k])] at this
  exact this
theorem tr_Ap_occ (a : tr_Ap h h' L r) (k : r.1 = 2 ∨ r.1 = 3) : ∀ S, tr_oc h' (L + 1) S = tr_oc h L S
  | 0 => rfl
  | S + 1 => by
    show tr_oc h' (L + 1) S + tr_if (tr_op h' (nI S) (L + 1) = 0) 0 1 = _
    rw [tr_Ap_occ a k S, tr_Ap_opc a k]
    rfl
theorem tr_Ap_okb (a : tr_Ap h h' L r) (e : r.2.1 = nI j) (hj : j < S) (k : r.1 = 1) (pg : r.2.2.1 = -1) (pc : r.2.2.2.1 = -1) (o : tr_op h (nI j) L = 0) : tr_ok P C S h' (L + 1) := by
  unfold tr_ok
  rw [a.2, e, Nat.add_sub_cancel, tr_Ap_op a]
  exact ⟨⟨j, hj, rfl⟩, Or.inl ⟨k, o, pg, pc⟩⟩
theorem tr_Ap_oke (a : tr_Ap h h' L r) (e : r.2.1 = nI j) (hj : j < S) (k : r.1 = 4 ∨ r.1 = 5) (pg : r.2.2.1 = -1) (pc : r.2.2.2.1 = -1) (o : tr_op h (nI j) L ≠ 0) : tr_ok P C S h' (L + 1) := by
  unfold tr_ok
  rw [a.2, e, Nat.add_sub_cancel, tr_Ap_op a]
  exact ⟨⟨j, hj, rfl⟩, Or.inr (Or.inr ⟨k, o, pg, pc⟩)⟩
theorem tr_Ap_No (a : tr_Ap h h' L r) (e : r.2.1 = nI j) (hS : S ≤ 4) (hj : j < S) (hQ : Q ≤ L) (x : tr_op h' (nI j) (L + 1) = 0 ∨ tr_op h' (nI j) (L + 1) = L + 1) (X : tr_No S h L Q) : tr_No S h' (L + 1) Q := by
  intro s hs
  by_cases es : s = j
  · subst es
    intro o
    rcases x with x | x
    · exact absurd x o
    · omega
  · rw [tr_Ap_opo a]
    · exact X s hs
    · rw [e, nI_eq (by omega) (by omega)]
      exact fun z => es z.symm
end
end
section
/-! begin, commit -/
theorem tr_leT {x y : Int32} (a b : Nat) (l : a ≤ b) (hx : x = nI a) (hy : y = nI b) (hb : b < 2 ^ 31 := by omega) : x ≤ y := by subst hx hy; exact nI_le l hb
theorem tr_leF {x y : Int32} (a b : Nat) (l : b < a) (hx : x = nI a) (hy : y = nI b) (ha : a < 2 ^ 31 := by omega) : ¬ x ≤ y := by subst hx hy; exact nI_ge l ha
section
variable {gp gc gs gm me le ae pe re : Int32} {yk yl yp yc yv zs zS zE zB zN zC : Nat → Int32} {post : Int32 → Prop}
theorem tr_y_chkM {x : Int32} (hm : ¬ me = 0) (H : post (-1)) : wpY_checkOpen post (gp, gc, gs, gm, me, le, ae, pe, re, yk, yl, yp, yc, yv, zs, zS, zE, zB, zN, zC) x := br_f hm H
theorem tr_y_chkB {x : Int32} {S : Nat} (hm : me = 0) (hv : x < 0 ∨ nI S ≤ x) (H : post (-2)) : wpY_checkOpen post (gp, gc, nI S, gm, me, le, ae, pe, re, yk, yl, yp, yc, yv, zs, zS, zE, zB, zN, zC) x :=
  br_t hm (br_c (fun _ => H) (fun a => br_f (Int32.not_lt.mpr (hv.resolve_left a)) H))
theorem tr_y_chkN {S L j : Nat} (hm : me = 0) (hS : S ≤ 4) (hL : L ≤ 256) (hj : j < S) (o : tr_op (tr_h yk yl yp yc yv) (nI j) L = 0) (H : post (-3)) : wpY_checkOpen post (gp, gc, nI S, gm, me, nI L, ae, pe, re, yk, yl, yp, yc, yv, zs, zS, zE, zB, zN, zC) (nI j) :=
  br_t hm (br_f (nI_pos (by omega)) (br_t (nI_lt hj (by omega)) (tr_y_openAt hL (br_t (by rw [o]; rfl) H))))
theorem tr_y_chkO {S L j : Nat} (hm : me = 0) (hS : S ≤ 4) (hL : L ≤ 256) (hj : j < S) (o : tr_op (tr_h yk yl yp yc yv) (nI j) L ≠ 0) (H : post 0) : wpY_checkOpen post (gp, gc, nI S, gm, me, nI L, ae, pe, re, yk, yl, yp, yc, yv, zs, zS, zE, zB, zN, zC) (nI j) :=
  br_t hm (br_f (nI_pos (by omega)) (br_t (nI_lt hj (by omega)) (tr_y_openAt hL (br_f (nI_ne0 (by omega) (by have := tr_op_le (h := (tr_h yk yl yp yc yv)) (s := nI j) L; omega)) H))))
end
section
variable {fp fc fs fm md la ar pr ra rn : Int32} {cv sp pl al ob lk ls lp lc lv lb bs bS bE bB bN bP bD kS kV : Nat → Int32} {post : Int32 → Prop} {h : Nat → tr_R}
theorem tr_x_tM {x : Int32} (hm : ¬ md = 0) (H : post (-1)) : wpX_transactionRefusal post (fp, fc, fs, fm, md, la, ar, pr, ra, rn, cv, sp, pl, al, ob, lk, ls, lp, lc, lv, lb, bs, bS, bE, bB, bN, bP, bD, kS, kV) x := br_f hm H
theorem tr_x_tB {x : Int32} (hm : md = 0) (hv : x < 0 ∨ fs ≤ x) (H : post (-2)) : wpX_transactionRefusal post (fp, fc, fs, fm, md, la, ar, pr, ra, rn, cv, sp, pl, al, ob, lk, ls, lp, lc, lv, lb, bs, bS, bE, bB, bN, bP, bD, kS, kV) x :=
  br_t hm (tr_x_isSlot0 hv (br_t rfl H))
theorem tr_x_tN {S L j : Nat} (hm : md = 0) (hS : S ≤ 4) (hj : j < S) (ho : tr_Ob S h L ob) (o : tr_op h (nI j) L = 0) (H : post (-3)) : wpX_transactionRefusal post (fp, fc, nI S, fm, md, la, ar, pr, ra, rn, cv, sp, pl, al, ob, lk, ls, lp, lc, lv, lb, bs, bS, bE, bB, bN, bP, bD, kS, kV) (nI j) := by
  refine br_t hm (tr_x_isSlot1 hS hj (br_f (by decide) ⟨vp_in_nI (by omega) (by decide), br_t ?_ H⟩))
  rw [nI_clamp (by omega), ho j hj, o]; rfl
theorem tr_x_tO {S L j : Nat} (hm : md = 0) (hS : S ≤ 4) (hL : L ≤ 256) (hj : j < S) (ho : tr_Ob S h L ob) (o : tr_op h (nI j) L ≠ 0) (H : post 0) : wpX_transactionRefusal post (fp, fc, nI S, fm, md, la, ar, pr, ra, rn, cv, sp, pl, al, ob, lk, ls, lp, lc, lv, lb, bs, bS, bE, bB, bN, bP, bD, kS, kV) (nI j) := by
  refine br_t hm (tr_x_isSlot1 hS hj (br_f (by decide) ⟨vp_in_nI (by omega) (by decide), br_f ?_ H⟩))
  rw [nI_clamp (by omega), ho j hj]
  have := tr_op_le (h := h) (s := nI j) L
  exact nI_ne0 (by omega) (by omega)
end
section
variable {gp gc gs gm me le ae pe re : Int32} {yk yl yp yc yv zs zS zE zB zN zC : Nat → Int32} {pp : Int32 → SY → Prop} {x : Int32}
theorem tr_yb_M (hm : ¬ me = 0) (H : pp (-1) (gp, gc, gs, gm, me, le, ae, pe, re, yk, yl, yp, yc, yv, zs, zS, zE, zB, zN, zC)) : wpY_begin pp (gp, gc, gs, gm, me, le, ae, pe, re, yk, yl, yp, yc, yv, zs, zS, zE, zB, zN, zC) x := by
  unfold wpY_begin
  exact tr_y_chkM hm (br_f (by decide) (br_f (by decide) H))
theorem tr_yb_B {S : Nat} (hm : me = 0) (hv : x < 0 ∨ nI S ≤ x) (H : pp (-2) (gp, gc, nI S, gm, me, le, ae, pe, re, yk, yl, yp, yc, yv, zs, zS, zE, zB, zN, zC)) : wpY_begin pp (gp, gc, nI S, gm, me, le, ae, pe, re, yk, yl, yp, yc, yv, zs, zS, zE, zB, zN, zC) x := by
  unfold wpY_begin
  exact tr_y_chkB hm hv (br_f (by decide) (br_f (by decide) H))
theorem tr_yb_O {S L j : Nat} (hm : me = 0) (hS : S ≤ 4) (hL : L ≤ 256) (hj : j < S) (o : tr_op (tr_h yk yl yp yc yv) (nI j) L ≠ 0) (H : pp (-8) (gp, gc, nI S, gm, me, nI L, ae, pe, re, yk, yl, yp, yc, yv, zs, zS, zE, zB, zN, zC)) : wpY_begin pp (gp, gc, nI S, gm, me, nI L, ae, pe, re, yk, yl, yp, yc, yv, zs, zS, zE, zB, zN, zC) (nI j) := by
  unfold wpY_begin
  exact tr_y_chkO hm hS hL hj o (br_t rfl H)
theorem tr_yb_N {S L j Q M : Nat} (hm : me = 0) (hS : S ≤ 4) (hL : L ≤ 256) (hQ : Q ≤ L) (hM : M ≤ 96) (hj : j < S) (o : tr_op (tr_h yk yl yp yc yv) (nI j) L = 0) (H7 : 256 < L + tr_oc (tr_h yk yl yp yc yv) L S + 2 → pp (-7) (gp, gc, nI S, nI M, me, nI L, ae, nI Q, re, yk, yl, yp, yc, yv, zs, zS, zE, zB, zN, zC)) (H6 : L + tr_oc (tr_h yk yl yp yc yv) L S + 2 ≤ 256 → M < L - Q + tr_oc (tr_h yk yl yp yc yv) L S + 2 → pp (-6) (gp, gc, nI S, nI M, me, nI L, ae, nI Q, re, yk, yl, yp, yc, yv, zs, zS, zE, zB, zN, zC)) (H0 : L + tr_oc (tr_h yk yl yp yc yv) L S + 2 ≤ 256 → L - Q + tr_oc (tr_h yk yl yp yc yv) L S + 2 ≤ M → pp (nI (L + 1)) (gp, gc, nI S, nI M, me, nI (L + 1), ae, nI Q, re, upd yk (L + 1) 1, upd yl (L + 1) (nI j), upd yp (L + 1) (-1), upd yc (L + 1) (-1), upd yv (L + 1) 0, zs, zS, zE, zB, zN, zC)) : wpY_begin pp (gp, gc, nI S, nI M, me, nI L, ae, nI Q, re, yk, yl, yp, yc, yv, zs, zS, zE, zB, zN, zC) (nI j) := by
  have oc4 := tr_oc_le (h := (tr_h yk yl yp yc yv)) (n := L) S
  have e1 : nI L + nI (tr_oc (tr_h yk yl yp yc yv) L S) + 2 = nI (L + tr_oc (tr_h yk yl yp yc yv) L S + 2) := by rw [nI_add]; exact nI_add _ 2
  have e2 : nI L - nI Q + nI (tr_oc (tr_h yk yl yp yc yv) L S) + 2 = nI (L - Q + tr_oc (tr_h yk yl yp yc yv) L S + 2) := by rw [pk_sub hQ, nI_add]; exact nI_add _ 2
  unfold wpY_begin
  exact tr_y_chkN hm hS (by omega) hj o (br_f (by decide) (br_t rfl (tr_y_openCount hS (by omega) (pk_le (L + tr_oc (tr_h yk yl yp yc yv) L S + 2) 256 (fun a => pk_le (L - Q + tr_oc (tr_h yk yl yp yc yv) L S + 2) M (fun b => tr_y_write (by omega) (H0 a b)) (fun b => H6 a b) e2) (fun a => H7 a) e1 tr_c256.symm))))
theorem tr_yc_M (hm : ¬ me = 0) (H : pp (-1) (gp, gc, gs, gm, me, le, ae, pe, re, yk, yl, yp, yc, yv, zs, zS, zE, zB, zN, zC)) : wpY_commit pp (gp, gc, gs, gm, me, le, ae, pe, re, yk, yl, yp, yc, yv, zs, zS, zE, zB, zN, zC) x := by
  unfold wpY_commit
  exact tr_y_chkM hm (br_f (by decide) H)
theorem tr_yc_B {S : Nat} (hm : me = 0) (hv : x < 0 ∨ nI S ≤ x) (H : pp (-2) (gp, gc, nI S, gm, me, le, ae, pe, re, yk, yl, yp, yc, yv, zs, zS, zE, zB, zN, zC)) : wpY_commit pp (gp, gc, nI S, gm, me, le, ae, pe, re, yk, yl, yp, yc, yv, zs, zS, zE, zB, zN, zC) x := by
  unfold wpY_commit
  exact tr_y_chkB hm hv (br_f (by decide) H)
theorem tr_yc_N {S L j : Nat} (hm : me = 0) (hS : S ≤ 4) (hL : L ≤ 256) (hj : j < S) (o : tr_op (tr_h yk yl yp yc yv) (nI j) L = 0) (H : pp (-3) (gp, gc, nI S, gm, me, nI L, ae, pe, re, yk, yl, yp, yc, yv, zs, zS, zE, zB, zN, zC)) : wpY_commit pp (gp, gc, nI S, gm, me, nI L, ae, pe, re, yk, yl, yp, yc, yv, zs, zS, zE, zB, zN, zC) (nI j) := by
  unfold wpY_commit
  exact tr_y_chkN hm hS hL hj o (br_f (by decide) H)
theorem tr_yc_O {S L j : Nat} (hm : me = 0) (hS : S ≤ 4) (hL : L < 256) (hj : j < S) (o : tr_op (tr_h yk yl yp yc yv) (nI j) L ≠ 0) (H : pp (nI (L + 1)) (gp, gc, nI S, gm, me, nI (L + 1), ae, pe, re, upd yk (L + 1) 4, upd yl (L + 1) (nI j), upd yp (L + 1) (-1), upd yc (L + 1) (-1), upd yv (L + 1) 0, zs, zS, zE, zB, zN, zC)) : wpY_commit pp (gp, gc, nI S, gm, me, nI L, ae, pe, re, yk, yl, yp, yc, yv, zs, zS, zE, zB, zN, zC) (nI j) := by
  unfold wpY_commit
  exact tr_y_chkO hm hS (by omega) hj o (br_t rfl (tr_y_write hL H))
theorem tr_ya_M (hm : ¬ me = 0) (H : pp (-1) (gp, gc, gs, gm, me, le, ae, pe, re, yk, yl, yp, yc, yv, zs, zS, zE, zB, zN, zC)) : wpY_abort pp (gp, gc, gs, gm, me, le, ae, pe, re, yk, yl, yp, yc, yv, zs, zS, zE, zB, zN, zC) x := by
  unfold wpY_abort
  exact tr_y_chkM hm (br_f (by decide) H)
theorem tr_ya_B {S : Nat} (hm : me = 0) (hv : x < 0 ∨ nI S ≤ x) (H : pp (-2) (gp, gc, nI S, gm, me, le, ae, pe, re, yk, yl, yp, yc, yv, zs, zS, zE, zB, zN, zC)) : wpY_abort pp (gp, gc, nI S, gm, me, le, ae, pe, re, yk, yl, yp, yc, yv, zs, zS, zE, zB, zN, zC) x := by
  unfold wpY_abort
  exact tr_y_chkB hm hv (br_f (by decide) H)
theorem tr_ya_N {S L j : Nat} (hm : me = 0) (hS : S ≤ 4) (hL : L ≤ 256) (hj : j < S) (o : tr_op (tr_h yk yl yp yc yv) (nI j) L = 0) (H : pp (-3) (gp, gc, nI S, gm, me, nI L, ae, pe, re, yk, yl, yp, yc, yv, zs, zS, zE, zB, zN, zC)) : wpY_abort pp (gp, gc, nI S, gm, me, nI L, ae, pe, re, yk, yl, yp, yc, yv, zs, zS, zE, zB, zN, zC) (nI j) := by
  unfold wpY_abort
  exact tr_y_chkN hm hS hL hj o (br_f (by decide) H)
theorem tr_ya_O {S L j : Nat} (hm : me = 0) (hS : S ≤ 4) (hL : L < 256) (hj : j < S) (o : tr_op (tr_h yk yl yp yc yv) (nI j) L ≠ 0) (H : pp (nI (L + 1)) (gp, gc, nI S, gm, me, nI (L + 1), ae, pe, re, upd yk (L + 1) 5, upd yl (L + 1) (nI j), upd yp (L + 1) (-1), upd yc (L + 1) (-1), upd yv (L + 1) 0, zs, zS, zE, zB, zN, zC)) : wpY_abort pp (gp, gc, nI S, gm, me, nI L, ae, pe, re, yk, yl, yp, yc, yv, zs, zS, zE, zB, zN, zC) (nI j) := by
  unfold wpY_abort
  exact tr_y_chkO hm hS (by omega) hj o (br_t rfl (tr_y_write hL H))
end
theorem tr_live0 {P C S L A Q : Nat} {h : Nat → tr_R} {ra re rn : Int32} {cv sp pl al ob : Nat → Int32} (m : tr_Md P C S h L A Q 0 ra re rn cv sp pl al ob) : tr_Live P C S h L A Q cv sp pl al ob := by
  rcases m with ⟨_, x⟩ | ⟨z, _⟩ | ⟨z, _⟩
  · exact x
  · exact absurd z (by decide)
  · exact absurd z (by decide)
section
variable {k P C S M L A Q : Nat} {md ra rn re : Int32} {cv sp pl al ob lk ls lp lc lv lb bs bS bE bB bN bP bD kS kV yk yl yp yc yv zs zS zE zB zN zC : Nat → Int32}
theorem tr_begin (R : tr_Rel P C S M L A Q md ra rn cv sp pl al ob lk ls lp lc lv lb bs bS bE bB bN bP bD kS kV re yk yl yp yc yv zs zS zE zB zN zC) (v1 : Int32) : wpX_begin (fun r u' => wpY_begin (fun r' v' => r' = r ∧ i_Rel k u' v') (nI P, nI C, nI S, nI M, md, nI L, nI A, nI Q, re, yk, yl, yp, yc, yv, zs, zS, zE, zB, zN, zC) v1) (nI P, nI C, nI S, nI M, md, nI L, nI A, nI Q, ra, rn, cv, sp, pl, al, ob, lk, ls, lp, lc, lv, lb, bs, bS, bE, bB, bN, bP, bD, kS, kV) v1 := by
  have I : i_Rel k (nI P, nI C, nI S, nI M, md, nI L, nI A, nI Q, ra, rn, cv, sp, pl, al, ob, lk, ls, lp, lc, lv, lb, bs, bS, bE, bB, bN, bP, bD, kS, kV) (nI P, nI C, nI S, nI M, md, nI L, nI A, nI Q, re, yk, yl, yp, yc, yv, zs, zS, zE, zB, zN, zC) := tr_mk R
  have R0 := R
  obtain ⟨hz, hwf, hr, hg, hb, hn, hm⟩ := R
  obtain ⟨z1, z2, z3, z4, z5, z6, z7, z8⟩ := hz
  by_cases m0 : md = 0
  · subst m0
    have LV := tr_live0 hm
    obtain ⟨l1, l2, l3, l4, l5, l6, l7, l8⟩ := LV
    have hL := (hr L (Nat.le_refl L)).1
    rcases pk_ix v1 (n := S) (by omega) with hv | hv | ⟨j, hj, rfl⟩
    · exact br_t rfl (tr_x_isSlot0 (Or.inl hv) (br_t rfl (tr_yb_B rfl (Or.inl hv) ⟨rfl, I⟩)))
    · exact br_t rfl (tr_x_isSlot0 (Or.inr hv) (br_t rfl (tr_yb_B rfl (Or.inr hv) ⟨rfl, I⟩)))
    · have hin : vp_in (nI j) 4 := vp_in_nI (by omega) (by decide)
      have hc : (nI j).toNatClampNeg = j := nI_clamp (by omega)
      refine br_t rfl (tr_x_isSlot1 z6 hj (br_f (by decide) ⟨hin, ?_⟩))
      rw [hc, l3 j hj]
      by_cases o : tr_op (tr_h yk yl yp yc yv) (nI j) L = 0
      · have oc4 := tr_oc_le (h := (tr_h yk yl yp yc yv)) (n := L) S
        refine br_t (by rw [o]; rfl) (tr_x_openCount z6 (by omega) l3 (tr_x_room (r := tr_oc (tr_h yk yl yp yc yv) L S + 2) (nI_add _ 2) (by omega) (by omega) z8 (by omega) (fun a b => ?_) (fun a b => ?_) (fun a => ?_)))
        · refine br_t rfl (tr_x_append (by omega) ⟨hin, nm_e ?_⟩)
          have a1 := tr_Ap_mk (yk := yk) (yl := yl) (yp := yp) (yc := yc) (yv := yv) (L := L) (k := 1) (s := nI j) (g := -1) (c := -1) (v := 0)
          have oc1 := tr_Ap_ocb (S := S) a1 rfl rfl z6 hj o
          have ob1 := tr_Ap_opb a1 rfl
          refine tr_yb_N rfl z6 (by omega) (by omega) z8 hj o (fun z => absurd z (by omega)) (fun _ z => absurd z (by omega)) (fun _ _ => ⟨rfl, ?_⟩)
          exact tr_mk (tr_Rel_app R0 (fun z => absurd z (by decide)) (by omega) (by omega) (tr_Ap_okb a1 rfl hj rfl rfl rfl o) ⟨tr_Ap_Ce a1 (show ¬ (1 : Int32) = 5 by decide) rfl z2 l1, tr_Ap_Sp a1 (show ¬ (1 : Int32) = 5 by decide) rfl z2 l2, tr_Ap_Ob a1 rfl z6 hj l3 ob1, tr_Ap_Lkb a1 rfl rfl z2 l4, tr_Ap_Lkb a1 rfl rfl z2 l5, tr_Ap_No a1 rfl z6 hj (by omega) (Or.inr ob1) l6, l7, by omega⟩)
        · exact br_f (by decide) (tr_yb_N rfl z6 (by omega) (by omega) z8 hj o (fun z => absurd z (by omega)) (fun _ _ => ⟨rfl, I⟩) (fun _ z => absurd z (by omega)))
        · exact br_f (by decide) (tr_yb_N rfl z6 (by omega) (by omega) z8 hj o (fun _ => ⟨rfl, I⟩) (fun z _ => absurd z (by omega)) (fun z _ => absurd z (by omega)))
      · have := tr_op_le (h := (tr_h yk yl yp yc yv)) (s := nI j) L
        exact br_f (nI_ne0 (by omega) (by omega)) (tr_yb_O rfl z6 (by omega) hj o ⟨rfl, I⟩)
  · exact br_f m0 (tr_yb_M m0 ⟨rfl, I⟩)
theorem tr_commit (R : tr_Rel P C S M L A Q md ra rn cv sp pl al ob lk ls lp lc lv lb bs bS bE bB bN bP bD kS kV re yk yl yp yc yv zs zS zE zB zN zC) (v1 : Int32) : wpX_commit (fun r u' => wpY_commit (fun r' v' => r' = r ∧ i_Rel k u' v') (nI P, nI C, nI S, nI M, md, nI L, nI A, nI Q, re, yk, yl, yp, yc, yv, zs, zS, zE, zB, zN, zC) v1) (nI P, nI C, nI S, nI M, md, nI L, nI A, nI Q, ra, rn, cv, sp, pl, al, ob, lk, ls, lp, lc, lv, lb, bs, bS, bE, bB, bN, bP, bD, kS, kV) v1 := by
  unfold wpX_commit
  have I : i_Rel k (nI P, nI C, nI S, nI M, md, nI L, nI A, nI Q, ra, rn, cv, sp, pl, al, ob, lk, ls, lp, lc, lv, lb, bs, bS, bE, bB, bN, bP, bD, kS, kV) (nI P, nI C, nI S, nI M, md, nI L, nI A, nI Q, re, yk, yl, yp, yc, yv, zs, zS, zE, zB, zN, zC) := tr_mk R
  have R0 := R
  obtain ⟨hz, hwf, hr, hg, hb, hn, hm⟩ := R
  obtain ⟨z1, z2, z3, z4, z5, z6, z7, z8⟩ := hz
  by_cases m0 : md = 0
  · subst m0
    have LV := tr_live0 hm
    obtain ⟨l1, l2, l3, l4, l5, l6, l7, l8⟩ := LV
    have hL := (hr L (Nat.le_refl L))
    rcases pk_ix v1 (n := S) (by omega) with hv | hv | ⟨j, hj, rfl⟩
    · exact tr_x_tB rfl (Or.inl hv) (br_f (by decide) (tr_yc_B rfl (Or.inl hv) ⟨rfl, I⟩))
    · exact tr_x_tB rfl (Or.inr hv) (br_f (by decide) (tr_yc_B rfl (Or.inr hv) ⟨rfl, I⟩))
    · by_cases o : tr_op (tr_h yk yl yp yc yv) (nI j) L = 0
      · exact tr_x_tN rfl z6 hj l3 o (br_f (by decide) (tr_yc_N rfl z6 (by omega) hj o ⟨rfl, I⟩))
      · have a1 := tr_Ap_mk (yk := yk) (yl := yl) (yp := yp) (yc := yc) (yv := yv) (L := L) (k := 4) (s := nI j) (g := -1) (c := -1) (v := 0)
        have oc1 := tr_Ap_oce (S := S) a1 rfl (Or.inl rfl) z6 hj o
        have ob1 := tr_Ap_ope a1 (Or.inl rfl)
        refine tr_x_tO rfl z6 (by omega) hj l3 o (br_t rfl (tr_x_append (by omega) (tr_x_endT (by omega) (fun pl' al' hp ha => ?_))))
        refine tr_yc_O rfl z6 (by omega) hj o ⟨rfl, ?_⟩
        exact tr_mk (tr_Rel_app R0 (fun z => absurd z (by decide)) (by omega) (by omega) (tr_Ap_oke a1 rfl hj (Or.inl rfl) rfl rfl o) ⟨tr_Ap_Ce a1 (show ¬ (4 : Int32) = 5 by decide) rfl z2 l1, tr_Ap_Sp a1 (show ¬ (4 : Int32) = 5 by decide) rfl z2 l2, tr_Ap_Ob a1 rfl z6 hj l3 ob1, tr_Ap_Lke a1 rfl (Or.inl rfl) rfl z2 z4 (by omega) l4 hp, tr_Ap_Lke a1 rfl (Or.inl rfl) rfl z2 z4 (by omega) l5 ha, tr_Ap_No a1 rfl z6 hj (by omega) (Or.inl ob1) l6, l7, by omega⟩)
  · exact tr_x_tM m0 (br_f (by decide) (tr_yc_M m0 ⟨rfl, I⟩))
end
end
section
/-! put, add -/
/-- another open transaction hinders a change of kind k on cell (g, c) by slot s -/
def tr_hd (h : Nat → tr_R) (L : Nat) (k s g c : Int32) : Prop := ∃ q, 1 ≤ q ∧ q ≤ L ∧ tr_on h g c q ∧ ¬ (h q).2.1 = s ∧ ((h q).1 = 2 ∨ ((h q).1 = 3 ∧ k = 2)) ∧ tr_ft h q L = 0
section
variable {gp gc gs gm me le ae pe re : Int32} {yk yl yp yc yv zs zS zE zB zN zC : Nat → Int32} {post : Int32 → SY → Prop}
theorem tr_y_87z {J : Int32 → Prop} {x1 x2 x3 x4 x5 : Int32} {q : Nat} (hq : q < 257) (H : J (nI (q + 1))) : wY_change_87 post J x1 x2 x3 x4 x5 (nI q) 0 gp gc gs gm me le ae pe re yk yl yp yc yv zs zS zE zB zN zC := by
  have hin : vp_in (nI q) 257 := vp_in_nI hq (by decide)
  have A : wY_change_116 post J x1 x2 x3 x4 x5 (nI q) 0 gp gc gs gm me le ae pe re yk yl yp yc yv zs zS zE zB zN zC := br_t rfl (nm_r (nI_1 q) H)
  have B : wY_change_120 post J x1 x2 x3 x4 x5 (nI q) 0 gp gc gs gm me le ae pe re yk yl yp yc yv zs zS zE zB zN zC := br_t rfl (nm_r (nI_1 q) H)
  exact ⟨hin, br_c (fun _ => A) (fun _ => ⟨hin, br_c (fun _ => br_c (fun _ => A) (fun _ => B)) (fun _ => B)⟩)⟩
theorem tr_y_87 {J : Int32 → Prop} {x1 x2 x3 x4 x5 : Int32} {L q : Nat} (hq : 1 ≤ q) (lq : q ≤ L) (hL : L ≤ 256) (H5 : (yk q = 2 ∨ (yk q = 3 ∧ x1 = 2)) → tr_ft (tr_h yk yl yp yc yv) q L = 0 → post (-5) (gp, gc, gs, gm, me, nI L, ae, pe, re, yk, yl, yp, yc, yv, zs, zS, zE, zB, zN, zC)) (H : ¬ ((yk q = 2 ∨ (yk q = 3 ∧ x1 = 2)) ∧ tr_ft (tr_h yk yl yp yc yv) q L = 0) → J (nI (q + 1))) : wY_change_87 post J x1 x2 x3 x4 x5 (nI q) 1 gp gc gs gm me (nI L) ae pe re yk yl yp yc yv zs zS zE zB zN zC := by
  have hin : vp_in (nI q) 257 := vp_in_nI (by omega) (by decide)
  have A : (yk q = 2 ∨ (yk q = 3 ∧ x1 = 2)) → wY_change_116 post J x1 x2 x3 x4 x5 (nI q) 1 gp gc gs gm me (nI L) ae pe re yk yl yp yc yv zs zS zE zB zN zC := fun z => by
    refine br_f (by decide) (br_f (by decide) (tr_y_fate hq lq hL ?_))
    by_cases f : tr_ft (tr_h yk yl yp yc yv) q L = 0
    · exact br_t f (H5 z f)
    · exact br_f f (nm_r (nI_1 q) (H (fun y => f y.2)))
  have B : ¬ (yk q = 2 ∨ (yk q = 3 ∧ x1 = 2)) → wY_change_120 post J x1 x2 x3 x4 x5 (nI q) 1 gp gc gs gm me (nI L) ae pe re yk yl yp yc yv zs zS zE zB zN zC := fun z => br_f (by decide) (br_t rfl (nm_r (nI_1 q) (H (fun y => z y.1))))
  unfold wY_change_87
  rw [nI_clamp (show q < 2 ^ 31 by omega)]
  exact ⟨hin, br_c (fun a => A (Or.inl a)) (fun a => ⟨hin, br_c (fun b => br_c (fun c => A (Or.inr ⟨b, c⟩)) (fun c => B (fun z => z.elim a (fun y => c y.2)))) (fun b => B (fun z => z.elim a (fun y => b y.1)))⟩)⟩
theorem tr_y_31 {k s g c v : Int32} {L : Nat} (hL : L ≤ 256) (H5 : tr_hd (tr_h yk yl yp yc yv) L k s g c → post (-5) (gp, gc, gs, gm, me, nI L, ae, pe, re, yk, yl, yp, yc, yv, zs, zS, zE, zB, zN, zC)) (H0 : ¬ tr_hd (tr_h yk yl yp yc yv) L k s g c → wY_change_155 post k s g c v gp gc gs gm me (nI L) ae pe re yk yl yp yc yv zs zS zE zB zN zC) : ∀ n i, i ≤ L → L - i < n → (∀ q, 1 ≤ q → q ≤ i → ¬ (tr_on (tr_h yk yl yp yc yv) g c q ∧ ¬ yl q = s ∧ (yk q = 2 ∨ (yk q = 3 ∧ k = 2)) ∧ tr_ft (tr_h yk yl yp yc yv) q L = 0)) → wY_change_31 post k s g c v gp gc gs gm me (nI L) ae pe re yk yl yp yc yv zs zS zE zB zN zC n (nI (i + 1))
  | 0, _ => fun _ l => absurd l (by omega)
  | n + 1, i => by
    intro li ln N
    by_cases ei : i = L
    · subst ei
      exact br_t (nI_lt (by omega) (by omega)) (H0 (fun ⟨q, h1, h2, h3⟩ => N q h1 h2 h3))
    · have hj : i + 1 < 257 := by omega
      have hin : vp_in (nI (i + 1)) 257 := vp_in_nI hj (by decide)
      have ih : ¬ (tr_on (tr_h yk yl yp yc yv) g c (i + 1) ∧ ¬ yl (i + 1) = s ∧ (yk (i + 1) = 2 ∨ (yk (i + 1) = 3 ∧ k = 2)) ∧ tr_ft (tr_h yk yl yp yc yv) (i + 1) L = 0) → wY_change_31 post k s g c v gp gc gs gm me (nI L) ae pe re yk yl yp yc yv zs zS zE zB zN zC n (nI (i + 1 + 1)) := fun z => tr_y_31 hL H5 H0 n (i + 1) (by omega) (by omega) (fun q h1 h2 => by
        by_cases e : q = i + 1
        · subst e; exact z
        · exact N q h1 (by omega))
      refine br_f (nI_nlt (by omega) (by omega)) (br_f (by rw [← tr_c256]; exact nI_nlt (by omega) (by omega)) ⟨hin, ?_⟩)
      rw [nI_clamp (show i + 1 < 2 ^ 31 by omega)]
      by_cases e : yl (i + 1) = s
      · exact br_t e (tr_y_87z hj (ih (fun z => z.2.1 e)))
      · by_cases eg : yp (i + 1) = g
        · by_cases ec : yc (i + 1) = c
          · exact br_f e ⟨hin, br_t eg ⟨hin, br_t ec (tr_y_87 (by omega) (by omega) hL (fun z y => H5 ⟨i + 1, by omega, by omega, ⟨eg, ec⟩, e, z, y⟩) (fun z => ih (fun y => z y.2.2)))⟩⟩
          · exact br_f e ⟨hin, br_t eg ⟨hin, br_f ec (tr_y_87z hj (ih (fun z => ec z.1.2)))⟩⟩
        · exact br_f e ⟨hin, br_f eg (tr_y_87z hj (ih (fun z => eg z.1.1)))⟩
theorem tr_y_cellOk1 {post : Int32 → Prop} {P C g c : Nat} (hP : P ≤ 8) (hC : C ≤ 4) (hg : g < P) (hc : c < C) (H : post 1) : wpY_cellOk post (nI P, nI C, gs, gm, me, le, ae, pe, re, yk, yl, yp, yc, yv, zs, zS, zE, zB, zN, zC) (nI g) (nI c) :=
  br_f (nI_pos (by omega)) (br_f (nI_ge hg (by omega)) (br_f (nI_pos (by omega)) (br_f (nI_ge hc (by omega)) H)))
theorem tr_y_cellOk0 {post : Int32 → Prop} {v w : Int32} (hv : v < 0 ∨ gp ≤ v ∨ w < 0 ∨ gc ≤ w) (H : post 0) : wpY_cellOk post (gp, gc, gs, gm, me, le, ae, pe, re, yk, yl, yp, yc, yv, zs, zS, zE, zB, zN, zC) v w :=
  br_c (fun _ => H) (fun a => br_c (fun _ => H) (fun b => br_c (fun _ => H) (fun c => br_t (((hv.resolve_left a).resolve_left b).resolve_left c) H)))
end
section
variable {gp gc gs gm me le ae pe re : Int32} {yk yl yp yc yv zs zS zE zB zN zC : Nat → Int32} {pp : Int32 → SY → Prop} {kd x a b v : Int32}
theorem tr_yg_M (hm : ¬ me = 0) (H : pp (-1) (gp, gc, gs, gm, me, le, ae, pe, re, yk, yl, yp, yc, yv, zs, zS, zE, zB, zN, zC)) : wpY_change pp (gp, gc, gs, gm, me, le, ae, pe, re, yk, yl, yp, yc, yv, zs, zS, zE, zB, zN, zC) kd x a b v := by
  unfold wpY_change
  exact tr_y_chkM hm (br_f (by decide) H)
theorem tr_yg_B {S : Nat} (hm : me = 0) (hv : x < 0 ∨ nI S ≤ x) (H : pp (-2) (gp, gc, nI S, gm, me, le, ae, pe, re, yk, yl, yp, yc, yv, zs, zS, zE, zB, zN, zC)) : wpY_change pp (gp, gc, nI S, gm, me, le, ae, pe, re, yk, yl, yp, yc, yv, zs, zS, zE, zB, zN, zC) kd x a b v := by
  unfold wpY_change
  exact tr_y_chkB hm hv (br_f (by decide) H)
theorem tr_yg_N {S L j : Nat} (hm : me = 0) (hS : S ≤ 4) (hL : L ≤ 256) (hj : j < S) (o : tr_op (tr_h yk yl yp yc yv) (nI j) L = 0) (H : pp (-3) (gp, gc, nI S, gm, me, nI L, ae, pe, re, yk, yl, yp, yc, yv, zs, zS, zE, zB, zN, zC)) : wpY_change pp (gp, gc, nI S, gm, me, nI L, ae, pe, re, yk, yl, yp, yc, yv, zs, zS, zE, zB, zN, zC) kd (nI j) a b v := by
  unfold wpY_change
  exact tr_y_chkN hm hS hL hj o (br_f (by decide) H)
theorem tr_yg_4 {S L j : Nat} (hm : me = 0) (hS : S ≤ 4) (hL : L ≤ 256) (hj : j < S) (o : tr_op (tr_h yk yl yp yc yv) (nI j) L ≠ 0) (hv : a < 0 ∨ gp ≤ a ∨ b < 0 ∨ gc ≤ b) (H : pp (-4) (gp, gc, nI S, gm, me, nI L, ae, pe, re, yk, yl, yp, yc, yv, zs, zS, zE, zB, zN, zC)) : wpY_change pp (gp, gc, nI S, gm, me, nI L, ae, pe, re, yk, yl, yp, yc, yv, zs, zS, zE, zB, zN, zC) kd (nI j) a b v := by
  unfold wpY_change
  exact tr_y_chkO hm hS hL hj o (br_t rfl (tr_y_cellOk0 hv (br_t rfl H)))
theorem tr_yg_O {P C S L j g c : Nat} (hm : me = 0) (hS : S ≤ 4) (hL : L ≤ 256) (hj : j < S) (o : tr_op (tr_h yk yl yp yc yv) (nI j) L ≠ 0) (hP : P ≤ 8) (hC : C ≤ 4) (hg : g < P) (hc : c < C) (H : ∃ n, wY_change_31 pp kd (nI j) (nI g) (nI c) v (nI P) (nI C) (nI S) gm me (nI L) ae pe re yk yl yp yc yv zs zS zE zB zN zC n 1) : wpY_change pp (nI P, nI C, nI S, gm, me, nI L, ae, pe, re, yk, yl, yp, yc, yv, zs, zS, zE, zB, zN, zC) kd (nI j) (nI g) (nI c) v := by
  unfold wpY_change
  exact tr_y_chkO hm hS hL hj o (br_t rfl (tr_y_cellOk1 hP hC hg hc (br_f (by decide) H)))
end
/-- a cell, or none -/
theorem tr_cellx (v w : Int32) {P C : Nat} (hP : P ≤ 8) (hC : C ≤ 4) : (v < 0 ∨ nI P ≤ v ∨ w < 0 ∨ nI C ≤ w) ∨ ∃ g c : Nat, g < P ∧ c < C ∧ v = nI g ∧ w = nI c := by
  rcases pk_ix v (n := P) (by omega) with a | a | ⟨g, hg, rfl⟩
  · exact Or.inl (Or.inl a)
  · exact Or.inl (Or.inr (Or.inl a))
  · rcases pk_ix w (n := C) (by omega) with b | b | ⟨c, hc, rfl⟩
    · exact Or.inl (Or.inr (Or.inr (Or.inl b)))
    · exact Or.inl (Or.inr (Or.inr (Or.inr b)))
    · exact Or.inr ⟨g, c, hg, hc, rfl, rfl⟩
/-- the locks of the others -/
theorem tr_x_hin {P C S : Nat} {h : Nat → tr_R} {L j : Nat} {g c k x : Int32} (W : tr_wf P C S h L) (hS : S ≤ 4) (hj : j < 4) (hx : ∀ i, i < 32 → (bt x i = true ↔ ∃ q, 1 ≤ q ∧ q ≤ L ∧ tr_on h g c q ∧ (h q).2.1 = nI i ∧ ((h q).1 = 2 ∨ ((h q).1 = 3 ∧ k = 2)) ∧ tr_ft h q L = 0)) : (x &&& (((1 : Int32) <<< (nI j &&& 31)) ^^^ (-1))) = 0 ↔ ¬ tr_hd h L k (nI j) g c := by
  have key : ¬ (x &&& (((1 : Int32) <<< (nI j &&& 31)) ^^^ (-1))) = 0 ↔ tr_hd h L k (nI j) g c := by
    rw [tr_b_ne0]
    constructor
    · rintro ⟨i, hi, e⟩
      rw [b_and, tr_bnot _ hi, tr_bsh (by omega) hi, Bool.and_eq_true, hx i hi] at e
      obtain ⟨⟨q, h1, h2, h3, h4, h5, h6⟩, e⟩ := e
      have ne : ¬ i = j := fun z => by subst z; simp at e
      refine ⟨q, h1, h2, h3, ?_, h5, h6⟩
      rw [h4, nI_eq (by omega) (by omega)]
      exact ne
    · rintro ⟨q, h1, h2, h3, h4, h5, h6⟩
      obtain ⟨s, hs, es⟩ := (W q h1 h2).1
      have ne : ¬ s = j := fun z => h4 (by rw [es, z])
      refine ⟨s, by omega, ?_⟩
      rw [b_and, tr_bnot _ (by omega), tr_bsh (by omega) (by omega), Bool.and_eq_true, hx s (by omega)]
      exact ⟨⟨q, h1, h2, h3, es, h5, h6⟩, by rw [decide_eq_false ne]; rfl⟩
  rw [← key, Classical.not_not]
/-- the relation's parts after a change -/
theorem tr_Live_c {P C S L A Q j g c : Nat} {h h' : Nat → tr_R} {k v x : Int32} {cv sp pl al ob : Nat → Int32} (a : tr_Ap h h' L (k, nI j, nI g, nI c, v)) (kk : k = 2 ∨ k = 3) (hP : P ≤ 8) (hC : C ≤ 4) (hg : g < P) (hc : c < C) (hx : x = tr_ef (k, nI j, nI g, nI c, v) (tr_fu h (nI g) (nI c) L)) (X : tr_Live P C S h L A Q cv sp pl al ob) (pl' al' : Nat → Int32) (p1 : tr_Lk P C h' (L + 1) 2 pl') (p2 : tr_Lk P C h' (L + 1) 3 al') : tr_Live P C S h' (L + 1) A Q (upd cv (g * 4 + c) x) (upd sp g (nI (L + 1))) pl' al' ob := by
  obtain ⟨l1, l2, l3, l4, l5, l6, l7, l8⟩ := X
  have k5 : ¬ k = 5 := by rcases kk with kk | kk <;> rw [kk] <;> decide
  refine ⟨fun g' hg' c' hc' => ?_, fun g' hg' => ?_, fun s hs => ?_, p1, p2, fun s hs => ?_, l7, by omega⟩
  · show _ = tr_fu h' (nI g') (nI c') (L + 1)
    by_cases e : g' * 4 + c' = g * 4 + c
    · obtain ⟨rfl, rfl⟩ := tr_ix (by omega) (by omega) e
      rw [pk_us, hx, tr_fu_c (h := h') (by unfold tr_on; rw [a.2]; exact ⟨rfl, rfl⟩) (by rw [a.2]; exact kk), a.2, tr_fu_cg L a.1]
    · rw [pk_un e, l1 g' hg' c' hc']
      show tr_fu h (nI g') (nI c') L = _
      rw [tr_fu_n (h := h') (fun o => e ?_) (by rw [a.2]; exact k5), tr_fu_cg L a.1]
      unfold tr_on at o
      rw [a.2] at o
      rw [(nI_eq (show g < 2 ^ 31 by omega) (show g' < 2 ^ 31 by omega)).mp o.1, (nI_eq (show c < 2 ^ 31 by omega) (show c' < 2 ^ 31 by omega)).mp o.2]
  · by_cases e : g' = g
    · subst e
      rw [pk_us, tr_st_t (h := h') (Or.inl (by rw [a.2]))]
    · rw [pk_un e, l2 g' hg', tr_st_n (h := h') (fun t => ?_), tr_st_cg L a.1]
      rcases t with t | t
      · rw [a.2] at t
        exact e ((nI_eq (show g < 2 ^ 31 by omega) (show g' < 2 ^ 31 by omega)).mp t).symm
      · rw [a.2] at t
        exact k5 t.1
  · rw [l3 s hs, tr_Ap_opc a kk]
  · rw [tr_Ap_opc a kk]
    exact l6 s hs
theorem tr_Ap_okc {P C S L j g c : Nat} {h h' : Nat → tr_R} {k v : Int32} (a : tr_Ap h h' L (k, nI j, nI g, nI c, v)) (W : tr_wf P C S h L) (kk : k = 2 ∨ k = 3) (hP : P ≤ 8) (hj : j < S) (hg : g < P) (hc : c < C) (o : tr_op h (nI j) L ≠ 0) (nh : ¬ tr_hd h L k (nI j) (nI g) (nI c)) : tr_ok P C S h' (L + 1) := by
  unfold tr_ok
  rw [a.2, Nat.add_sub_cancel, tr_Ap_op a]
  refine ⟨⟨j, hj, rfl⟩, Or.inr (Or.inl ⟨kk, o, ⟨g, hg, rfl⟩, ⟨c, hc, rfl⟩, ?_⟩)⟩
  intro r h1 h2 h3 h4 h5 h6
  have lr : r ≤ L := by omega
  rw [a.2] at h3 h4 h5 ⊢
  rw [a.1 r lr] at h3 h4 h5 ⊢
  rw [Nat.add_sub_cancel, tr_Ap_ft a lr] at h6
  have on : tr_on h (nI g) (nI c) r := ⟨h3, h4⟩
  have kr := (tr_on_k W (show g < 2 ^ 31 by omega) h1 lr on).1
  have n2 : ¬ (h r).1 = 2 := fun z => nh ⟨r, h1, lr, on, h5, Or.inl z, h6⟩
  have k3 := kr.resolve_left n2
  have n3 : ¬ k = 2 := fun z => nh ⟨r, h1, lr, on, h5, Or.inr ⟨k3, z⟩, h6⟩
  exact ⟨k3, kk.resolve_left n3⟩
section
variable {k P C S M L A Q : Nat} {md ra rn re : Int32} {cv sp pl al ob lk ls lp lc lv lb bs bS bE bB bN bP bD kS kV yk yl yp yc yv zs zS zE zB zN zC : Nat → Int32}
theorem tr_change (R : tr_Rel P C S M L A Q md ra rn cv sp pl al ob lk ls lp lc lv lb bs bS bE bB bN bP bD kS kV re yk yl yp yc yv zs zS zE zB zN zC) {kd : Int32} (kk : kd = 2 ∨ kd = 3) (v1 v2 v3 v4 : Int32) : wpX_change (fun r u' => wpY_change (fun r' v' => r' = r ∧ i_Rel k u' v') (nI P, nI C, nI S, nI M, md, nI L, nI A, nI Q, re, yk, yl, yp, yc, yv, zs, zS, zE, zB, zN, zC) kd v1 v2 v3 v4) (nI P, nI C, nI S, nI M, md, nI L, nI A, nI Q, ra, rn, cv, sp, pl, al, ob, lk, ls, lp, lc, lv, lb, bs, bS, bE, bB, bN, bP, bD, kS, kV) kd v1 v2 v3 v4 := by
  unfold wpX_change
  have I : i_Rel k (nI P, nI C, nI S, nI M, md, nI L, nI A, nI Q, ra, rn, cv, sp, pl, al, ob, lk, ls, lp, lc, lv, lb, bs, bS, bE, bB, bN, bP, bD, kS, kV) (nI P, nI C, nI S, nI M, md, nI L, nI A, nI Q, re, yk, yl, yp, yc, yv, zs, zS, zE, zB, zN, zC) := tr_mk R
  have R0 := R
  obtain ⟨hz, hwf, hr, hg, hb, hn, hm⟩ := R
  obtain ⟨z1, z2, z3, z4, z5, z6, z7, z8⟩ := hz
  by_cases m0 : md = 0
  · subst m0
    have LV := tr_live0 hm
    obtain ⟨l1, l2, l3, l4, l5, l6, l7, l8⟩ := LV
    have hL := (hr L (Nat.le_refl L))
    rcases pk_ix v1 (n := S) (by omega) with hv | hv | ⟨j, hj, rfl⟩
    · exact tr_x_tB rfl (Or.inl hv) (br_f (by decide) (tr_yg_B rfl (Or.inl hv) ⟨rfl, I⟩))
    · exact tr_x_tB rfl (Or.inr hv) (br_f (by decide) (tr_yg_B rfl (Or.inr hv) ⟨rfl, I⟩))
    · by_cases o : tr_op (tr_h yk yl yp yc yv) (nI j) L = 0
      · exact tr_x_tN rfl z6 hj l3 o (br_f (by decide) (tr_yg_N rfl z6 (by omega) hj o ⟨rfl, I⟩))
      · refine tr_x_tO rfl z6 (by omega) hj l3 o (br_t rfl ?_)
        rcases tr_cellx v2 v3 z2 z4 with hv | ⟨g, c, hgP, hcC, rfl, rfl⟩
        · exact tr_x_isCell0 hv (br_t rfl (tr_yg_4 rfl z6 (by omega) hj o hv ⟨rfl, I⟩))
        · refine tr_x_isCell1 z2 z4 hgP hcC (br_f (by decide) (nm_r (e' := nI (g * 4 + c)) (by rw [← nI_add, ← pk_mul]; rfl) (nm_e ?_)))
          have hix : vp_in (nI (g * 4 + c)) 32 := vp_in_nI (by omega) (by decide)
          have hcl : (nI (g * 4 + c)).toNatClampNeg = g * 4 + c := nI_clamp (by omega)
          have hgin : vp_in (nI g) 8 := vp_in_nI (by omega) (by decide)
          have hgc : (nI g).toNatClampNeg = g := nI_clamp (by omega)
          have oc4 := tr_oc_le (h := (tr_h yk yl yp yc yv)) (n := L) S
          have oc1 := tr_oc_pos o S hj
          have main : ∀ x : Int32, (∀ i, i < 32 → (bt x i = true ↔ ∃ q, 1 ≤ q ∧ q ≤ L ∧ tr_on (tr_h yk yl yp yc yv) (nI g) (nI c) q ∧ ((tr_h yk yl yp yc yv) q).2.1 = nI i ∧ (((tr_h yk yl yp yc yv) q).1 = 2 ∨ (((tr_h yk yl yp yc yv) q).1 = 3 ∧ kd = 2)) ∧ tr_ft (tr_h yk yl yp yc yv) q L = 0)) → wX_change_67 (fun r u' => wpY_change (fun r' v' => r' = r ∧ i_Rel k u' v') (nI P, nI C, nI S, nI M, 0, nI L, nI A, nI Q, re, yk, yl, yp, yc, yv, zs, zS, zE, zB, zN, zC) kd (nI j) (nI g) (nI c) v4) kd (nI j) (nI g) (nI c) v4 (nI (g * 4 + c)) ((1 : Int32) <<< (nI j &&& 31)) x (nI P) (nI C) (nI S) (nI M) 0 (nI L) (nI A) (nI Q) ra rn cv sp pl al ob lk ls lp lc lv lb bs bS bE bB bN bP bD kS kV := fun x hx => by
            have hh := tr_x_hin (j := j) hwf z6 (by omega) hx
            have Ys : ∀ {pp : Int32 → SY → Prop}, (∃ n, wY_change_31 pp kd (nI j) (nI g) (nI c) v4 (nI P) (nI C) (nI S) (nI M) 0 (nI L) (nI A) (nI Q) re yk yl yp yc yv zs zS zE zB zN zC n 1) → wpY_change pp (nI P, nI C, nI S, nI M, 0, nI L, nI A, nI Q, re, yk, yl, yp, yc, yv, zs, zS, zE, zB, zN, zC) kd (nI j) (nI g) (nI c) v4 := fun z => tr_yg_O rfl z6 (by omega) hj o z2 z4 hgP hcC z
            by_cases hd : tr_hd (tr_h yk yl yp yc yv) L kd (nI j) (nI g) (nI c)
            · refine br_f (fun z => hh.mp z hd) (Ys ⟨L + 1, tr_y_31 (by omega) (fun _ => ⟨rfl, I⟩) (fun z => absurd hd z) (L + 1) 0 (by omega) (by omega) (fun q h1 h2 => absurd h2 (by omega))⟩)
            · refine br_t (hh.mpr hd) (tr_x_openCount z6 (by omega) l3 (tr_x_room (r := tr_oc (tr_h yk yl yp yc yv) L S + 1) (nI_add _ 1) (by omega) (by omega) z8 (by omega) (fun a b => ?_) (fun a b => ?_) (fun a => ?_)))
              · refine br_t rfl ⟨hix, nm_e (tr_x_append (by omega) ?_)⟩
                have a1 := tr_Ap_mk (yk := yk) (yl := yl) (yp := yp) (yc := yc) (yv := yv) (L := L) (k := kd) (s := nI j) (g := nI g) (c := nI c) (v := v4)
                have oc2 := tr_Ap_occ a1 kk S
                have Yw : ∀ {pp : Int32 → SY → Prop}, pp (nI (L + 1)) (nI P, nI C, nI S, nI M, 0, nI (L + 1), nI A, nI Q, re, upd yk (L + 1) kd, upd yl (L + 1) (nI j), upd yp (L + 1) (nI g), upd yc (L + 1) (nI c), upd yv (L + 1) v4, zs, zS, zE, zB, zN, zC) → wpY_change pp (nI P, nI C, nI S, nI M, 0, nI L, nI A, nI Q, re, yk, yl, yp, yc, yv, zs, zS, zE, zB, zN, zC) kd (nI j) (nI g) (nI c) v4 := fun z => Ys ⟨L + 1, tr_y_31 (by omega) (fun y => absurd y hd) (fun _ => tr_y_openCount z6 (by omega) (br_t (tr_leT (L + tr_oc (tr_h yk yl yp yc yv) L S + 1) 256 (by omega) (by rw [nI_add]; exact nI_add _ 1) tr_c256.symm) (br_t (tr_leT (L - Q + tr_oc (tr_h yk yl yp yc yv) L S + 1) M (by omega) (by rw [pk_sub (by omega), nI_add]; exact nI_add _ 1) rfl) (tr_y_write (by omega) z)))) (L + 1) 0 (by omega) (by omega) (fun q h1 h2 => absurd h2 (by omega))⟩
                have ok1 := tr_Ap_okc a1 hwf kk z2 hj hgP hcC o hd
                have cvb : cv (g * 4 + c) = tr_fu (tr_h yk yl yp yc yv) (nI g) (nI c) L := l1 g hgP c hcC
                rw [hcl, hgc]
                rcases kk with rfl | rfl
                · refine br_t rfl ⟨hix, nm_e ⟨hix, hix, nm_e ⟨hgin, nm_e (Yw ⟨rfl, ?_⟩)⟩⟩⟩
                  exact tr_mk (tr_Rel_app R0 (fun _ => cvb) (by omega) (by omega) ok1 (tr_Live_c a1 (Or.inl rfl) z2 z4 hgP hcC (tr_ef2 rfl).symm ⟨l1, l2, l3, l4, l5, l6, l7, l8⟩ _ _ (tr_Ap_Lkc a1 (Or.inl rfl) z2 z4 (by omega) hgP hcC l4) (tr_Ap_Lko a1 (Or.inl rfl) (show ¬ (2 : Int32) = 3 by decide) l5)))
                · refine br_f (by decide) ⟨hix, nm_e ⟨hix, hix, nm_e ⟨hgin, nm_e (Yw ⟨rfl, ?_⟩)⟩⟩⟩
                  exact tr_mk (tr_Rel_app R0 (fun z => absurd z (by decide)) (by omega) (by omega) ok1 (tr_Live_c a1 (Or.inr rfl) z2 z4 hgP hcC (by rw [cvb]; exact (tr_ef3 (r := (3, nI j, nI g, nI c, v4)) rfl).symm) ⟨l1, l2, l3, l4, l5, l6, l7, l8⟩ _ _ (tr_Ap_Lko a1 (Or.inr rfl) (show ¬ (3 : Int32) = 2 by decide) l4) (tr_Ap_Lkc a1 (Or.inr rfl) z2 z4 (by omega) hgP hcC l5)))
              · exact br_f (by decide) (Ys ⟨L + 1, tr_y_31 (by omega) (fun y => absurd y hd) (fun _ => tr_y_openCount z6 (by omega) (br_t (tr_leT (L + tr_oc (tr_h yk yl yp yc yv) L S + 1) 256 (by omega) (by rw [nI_add]; exact nI_add _ 1) tr_c256.symm) (br_f (tr_leF (L - Q + tr_oc (tr_h yk yl yp yc yv) L S + 1) M (by omega) (by rw [pk_sub (by omega), nI_add]; exact nI_add _ 1) rfl) ⟨rfl, I⟩))) (L + 1) 0 (by omega) (by omega) (fun q h1 h2 => absurd h2 (by omega))⟩)
              · exact br_f (by decide) (Ys ⟨L + 1, tr_y_31 (by omega) (fun y => absurd y hd) (fun _ => tr_y_openCount z6 (by omega) (br_f (tr_leF (L + tr_oc (tr_h yk yl yp yc yv) L S + 1) 256 (by omega) (by rw [nI_add]; exact nI_add _ 1) tr_c256.symm) ⟨rfl, I⟩)) (L + 1) 0 (by omega) (by omega) (fun q h1 h2 => absurd h2 (by omega))⟩)
          rw [hcl]
          refine ⟨hix, nm_e ?_⟩
          by_cases k2 : kd = 2
          · refine br_t k2 ⟨hix, nm_e (main _ (fun i hi => ?_))⟩
            rw [b_or, Bool.or_eq_true, l4 g hgP c hcC i hi, l5 g hgP c hcC i hi]
            constructor
            · rintro (⟨q, h1, h2, h3, h4, h5, h6⟩ | ⟨q, h1, h2, h3, h4, h5, h6⟩)
              · exact ⟨q, h1, h2, h3, h4, Or.inl h5, h6⟩
              · exact ⟨q, h1, h2, h3, h4, Or.inr ⟨h5, k2⟩, h6⟩
            · rintro ⟨q, h1, h2, h3, h4, h5 | h5, h6⟩
              · exact Or.inl ⟨q, h1, h2, h3, h4, h5, h6⟩
              · exact Or.inr ⟨q, h1, h2, h3, h4, h5.1, h6⟩
          · refine br_f k2 (main _ (fun i hi => ?_))
            rw [l4 g hgP c hcC i hi]
            constructor
            · rintro ⟨q, h1, h2, h3, h4, h5, h6⟩
              exact ⟨q, h1, h2, h3, h4, Or.inl h5, h6⟩
            · rintro ⟨q, h1, h2, h3, h4, h5 | h5, h6⟩
              · exact ⟨q, h1, h2, h3, h4, h5, h6⟩
              · exact absurd h5.2 k2
  · exact tr_x_tM m0 (br_f (by decide) (tr_yg_M m0 ⟨rfl, I⟩))
end
end
section
/-! abort -/
theorem tr_tc_a {h : Nat → tr_R} {q g : Nat} (k : (h (q + 1)).1 = 5) (pg : (h (q + 1)).2.2.1 = -1) (hg : g < 2 ^ 31) : tr_tc h (nI g) (q + 1) ↔ ∃ r, tr_op h (h (q + 1)).2.1 q < r ∧ r ≤ q ∧ (h r).2.1 = (h (q + 1)).2.1 ∧ (h r).2.2.1 = nI g := by
  constructor
  · rintro (t | ⟨_, r, a, b, c⟩)
    · exact absurd (pg.symm.trans t) (tr_m1ne hg)
    · rw [Nat.add_sub_cancel] at b
      exact ⟨r, b, by omega, c⟩
  · rintro ⟨r, a, b, c⟩
    exact Or.inr ⟨k, r, by omega, by rw [Nat.add_sub_cancel]; exact a, c⟩
/-- the mask of touched pages says which pages the ABORT touches -/
theorem tr_Tm_tc {h : Nat → tr_R} {q g : Nat} {mk : Int32} (k : (h (q + 1)).1 = 5) (pg : (h (q + 1)).2.2.1 = -1) (hg : g < 32) (T : tr_Tm h (h (q + 1)).2.1 (tr_op h (h (q + 1)).2.1 q) (tr_op h (h (q + 1)).2.1 q) q mk) : bt mk g = true ↔ tr_tc h (nI g) (q + 1) := by
  rw [T g hg, tr_tc_a k pg (by omega)]
  exact ⟨fun ⟨r, a, _, b, c⟩ => ⟨r, a, b, c⟩, fun ⟨r, a, b, c⟩ => ⟨r, a, a, b, c⟩⟩
theorem tr_HR1 {P C S Q N N' lo : Nat} {h : Nat → tr_R} {lk ls lp lc lv lb : Nat → Int32} (G : tr_Rg h Q N' lk ls lp lc lv lb) (W : tr_wf P C S h N) (hP : P ≤ 8) (l : N ≤ N') (hl : Q ≤ lo) : ∀ q, lo < q → q ≤ N → ls (q % 96) = (h q).2.1 ∧ lp (q % 96) = (h q).2.2.1 ∧ ((h q).2.2.1 = -1 ∨ ∃ g, g < 32 ∧ (h q).2.2.1 = nI g) := by
  intro q a b
  obtain ⟨_, x2, x3, _⟩ := G q (by omega) (by omega)
  refine ⟨x2, x3, ?_⟩
  rcases (W q (by omega) b).2 with z | z | z
  · exact Or.inl z.2.2.1
  · obtain ⟨g, hg, eg⟩ := z.2.2.1
    exact Or.inr ⟨g, by omega, eg⟩
  · exact Or.inl z.2.2.1
/-- the full content behind an ABORT is what the take-back leaves -/
theorem tr_fu_ab {h : Nat → tr_R} {q g : Nat} {c : Int32} {s : Int32} (k : (h (q + 1)).1 = 5) (pg : (h (q + 1)).2.2.1 = -1) (es : (h (q + 1)).2.1 = s) (hg : g < 2 ^ 31) : tr_fu h (nI g) c (q + 1) = tr_F h (nI g) c (tr_kD h (fun t => False ∨ t = s) q) q := by
  rw [tr_fu_a (fun o => tr_m1ne hg (pg.symm.trans o.1)) k]
  refine tr_F_k q (fun r _ _ _ => ?_)
  unfold tr_kD
  rw [es]
  simp only [false_or]
theorem tr_Live_a {P C S L A Q j : Nat} {h h' : Nat → tr_R} {v mk : Int32} {cv sp pl al ob cv' sp' pl' al' : Nat → Int32} (a : tr_Ap h h' L (5, nI j, -1, -1, v)) (W : tr_wf P C S h' (L + 1)) (hP : P ≤ 8) (hC : C ≤ 4) (hS : S ≤ 4) (hj : j < S) (hQ : Q ≤ L) (X : tr_Live P C S h L A Q cv sp pl al ob)
    (T : tr_Tm h' (nI j) (tr_op h' (nI j) L) (tr_op h' (nI j) L) L mk)
    (c1 : ∀ g, g < P → ∀ c, c < C → (bt mk g = true → cv' (g * 4 + c) = tr_F h' (nI g) (nI c) (tr_kD h' (fun t => False ∨ t = nI j) L) L) ∧ (bt mk g = false → cv' (g * 4 + c) = cv (g * 4 + c)))
    (c2 : ∀ g, g < P → (bt mk g = true → sp' g = nI (L + 1)) ∧ (bt mk g = false → sp' g = sp g))
    (hp : ∀ i, i < 32 → pl' i = pl i &&& (((1 : Int32) <<< (nI j &&& 31)) ^^^ (-1))) (ha : ∀ i, i < 32 → al' i = al i &&& (((1 : Int32) <<< (nI j &&& 31)) ^^^ (-1))) : tr_Live P C S h' (L + 1) A Q cv' sp' pl' al' (upd ob j 0) := by
  obtain ⟨l1, l2, l3, l4, l5, l6, l7, l8⟩ := X
  have k5 : (h' (L + 1)).1 = 5 := by rw [a.2]
  have es : (h' (L + 1)).2.1 = nI j := by rw [a.2]
  have pg : (h' (L + 1)).2.2.1 = -1 := by rw [a.2]
  have ob1 := tr_Ap_ope a (Or.inr rfl)
  have tt : ∀ g, g < P → (bt mk g = true ↔ tr_tc h' (nI g) (L + 1)) := fun g hg => tr_Tm_tc k5 pg (by omega) (by rw [es]; exact T)
  refine ⟨fun g hg c hc => ?_, fun g hg => ?_, tr_Ap_Ob a rfl hS hj l3 ob1, tr_Ap_Lke a rfl (Or.inr rfl) rfl hP hC (by omega) l4 hp, tr_Ap_Lke a rfl (Or.inr rfl) rfl hP hC (by omega) l5 ha, tr_Ap_No a rfl hS hj hQ (Or.inl ob1) l6, l7, by omega⟩
  · show _ = tr_fu h' (nI g) (nI c) (L + 1)
    by_cases b : bt mk g = true
    · rw [(c1 g hg c hc).1 b, tr_fu_ab k5 pg es (by omega)]
    · rw [(c1 g hg c hc).2 (tr_bf b), l1 g hg c hc, tr_fu_t W (by omega) (fun t => b ((tt g hg).mpr t)), tr_fu_cg L a.1]
  · by_cases b : bt mk g = true
    · rw [(c2 g hg).1 b, tr_st_t ((tt g hg).mp b)]
    · rw [(c2 g hg).2 (tr_bf b), l2 g hg, tr_st_n (fun t => b ((tt g hg).mpr t)), tr_st_cg L a.1]
section
variable {k P C S M L A Q : Nat} {md ra rn re : Int32} {cv sp pl al ob lk ls lp lc lv lb bs bS bE bB bN bP bD kS kV yk yl yp yc yv zs zS zE zB zN zC : Nat → Int32}
theorem tr_abort (R : tr_Rel P C S M L A Q md ra rn cv sp pl al ob lk ls lp lc lv lb bs bS bE bB bN bP bD kS kV re yk yl yp yc yv zs zS zE zB zN zC) (v1 : Int32) : wpX_abort (fun r u' => wpY_abort (fun r' v' => r' = r ∧ i_Rel k u' v') (nI P, nI C, nI S, nI M, md, nI L, nI A, nI Q, re, yk, yl, yp, yc, yv, zs, zS, zE, zB, zN, zC) v1) (nI P, nI C, nI S, nI M, md, nI L, nI A, nI Q, ra, rn, cv, sp, pl, al, ob, lk, ls, lp, lc, lv, lb, bs, bS, bE, bB, bN, bP, bD, kS, kV) v1 := by
  unfold wpX_abort
  have I : i_Rel k (nI P, nI C, nI S, nI M, md, nI L, nI A, nI Q, ra, rn, cv, sp, pl, al, ob, lk, ls, lp, lc, lv, lb, bs, bS, bE, bB, bN, bP, bD, kS, kV) (nI P, nI C, nI S, nI M, md, nI L, nI A, nI Q, re, yk, yl, yp, yc, yv, zs, zS, zE, zB, zN, zC) := tr_mk R
  have R0 := R
  obtain ⟨hz, hwf, hr, hg, hb, hn, hm⟩ := R
  obtain ⟨z1, z2, z3, z4, z5, z6, z7, z8⟩ := hz
  by_cases m0 : md = 0
  · subst m0
    have LV := tr_live0 hm
    have LV0 := LV
    obtain ⟨l1, l2, l3, l4, l5, l6, l7, l8⟩ := LV
    have hL := (hr L (Nat.le_refl L))
    rcases pk_ix v1 (n := S) (by omega) with hv | hv | ⟨j, hj, rfl⟩
    · exact tr_x_tB rfl (Or.inl hv) (br_f (by decide) (tr_ya_B rfl (Or.inl hv) ⟨rfl, I⟩))
    · exact tr_x_tB rfl (Or.inr hv) (br_f (by decide) (tr_ya_B rfl (Or.inr hv) ⟨rfl, I⟩))
    · by_cases o : tr_op (tr_h yk yl yp yc yv) (nI j) L = 0
      · exact tr_x_tN rfl z6 hj l3 o (br_f (by decide) (tr_ya_N rfl z6 (by omega) hj o ⟨rfl, I⟩))
      · have a1 := tr_Ap_mk (yk := yk) (yl := yl) (yp := yp) (yc := yc) (yv := yv) (L := L) (k := 5) (s := nI j) (g := -1) (c := -1) (v := 0)
        have oc1 := tr_Ap_oce (S := S) a1 rfl (Or.inr rfl) z6 hj o
        have ok1 := tr_Ap_oke (P := P) (C := C) (S := S) a1 rfl hj (Or.inr rfl) rfl rfl o
        have W1 := tr_Ap_wf a1 hwf ok1
        have W0 : tr_wf P C S (tr_h (upd yk (L + 1) 5) (upd yl (L + 1) (nI j)) (upd yp (L + 1) (-1)) (upd yc (L + 1) (-1)) (upd yv (L + 1) 0)) L := fun q x y => W1 q x (by omega)
        have G1 := tr_Ap_Rg (w := 0) a1 hg (by omega) (fun z => absurd z (by decide))
        have eo := tr_Ap_op a1 (nI j)
        have o' : tr_op (tr_h (upd yk (L + 1) 5) (upd yl (L + 1) (nI j)) (upd yp (L + 1) (-1)) (upd yc (L + 1) (-1)) (upd yv (L + 1) 0)) (nI j) L ≠ 0 := by rw [eo]; exact o
        have q1 := l6 j hj o
        have lo1 := tr_op_le (h := (tr_h (upd yk (L + 1) 5) (upd yl (L + 1) (nI j)) (upd yp (L + 1) (-1)) (upd yc (L + 1) (-1)) (upd yv (L + 1) 0))) (s := nI j) L
        have obj : ob (nI j).toNatClampNeg = nI (tr_op (tr_h (upd yk (L + 1) 5) (upd yl (L + 1) (nI j)) (upd yp (L + 1) (-1)) (upd yc (L + 1) (-1)) (upd yv (L + 1) 0)) (nI j) L) := by rw [nI_clamp (by omega), l3 j hj, eo]
        refine tr_x_tO rfl z6 (by omega) hj l3 o (br_t rfl ⟨vp_in_nI (by omega) (by decide), nm_r obj (tr_x_append (by omega) ?_)⟩)
        refine tr_x_touched (h := (tr_h (upd yk (L + 1) 5) (upd yl (L + 1) (nI j)) (upd yp (L + 1) (-1)) (upd yc (L + 1) (-1)) (upd yv (L + 1) 0))) rfl lo1 (by omega) (tr_HR1 G1 W0 z2 (by omega) (by omega)) (fun mk T => ?_)
        refine tr_x_takeBack (h := (tr_h (upd yk (L + 1) 5) (upd yl (L + 1) (nI j)) (upd yp (L + 1) (-1)) (upd yc (L + 1) (-1)) (upd yv (L + 1) 0))) (P := P) (C := C) (S := S) (D := fun _ => False) rfl rfl z2 z4 (by omega) W0 o' (fun z => z) (fun q x y => G1 q (by omega) (by omega)) (fun g hg c hc _ => ?_) (fun cv' c1 => ?_)
        · rw [l1 g hg c hc, tr_kD_0, tr_fu_cg L a1.1]
        · refine tr_x_stampPages z2 (fun sp' c2 => tr_x_endT (by omega) (fun pl' al' hp ha => ?_))
          refine tr_ya_O rfl z6 (by omega) hj o ⟨rfl, ?_⟩
          exact tr_mk (tr_Rel_app R0 (fun z => absurd z (by decide)) (by omega) (by omega) ok1 (tr_Live_a a1 W1 z2 z4 z6 hj (by omega) LV0 T c1 c2 hp ha))
  · exact tr_x_tM m0 (br_f (by decide) (tr_ya_M m0 ⟨rfl, I⟩))
end
end
section
/-! the getters -/
section
variable {gp gc gs gm me le ae pe re : Int32} {yk yl yp yc yv zs zS zE zB zN zC : Nat → Int32} {post : Int32 → Prop} {rn : Int32}
theorem tr_y_run2 (H : tr_Rn rn zs) (K : post rn) : ∀ n i, i ≤ 6 → 6 - i < n → (∀ b, b < i → ¬ zs b = 1) → wY_running_2 post gp gc gs gm me le ae pe re yk yl yp yc yv zs zS zE zB zN zC n (nI i)
  | 0, _ => fun _ l => absurd l (by omega)
  | n + 1, i => by
    intro li ln N
    by_cases ei : i = 6
    · subst ei
      rcases H with ⟨e, _⟩ | ⟨r, hr, _, z, _⟩
      · rw [e] at K
        exact br_t (by rw [← tr_c6]; exact nI_le (by omega) (by omega)) K
      · exact absurd z (N r hr)
    · have hin : vp_in (nI i) 6 := vp_in_nI (by omega) (by decide)
      refine br_f (by rw [← tr_c6]; exact nI_ge (by omega) (by omega)) ⟨hin, ?_⟩
      rw [nI_clamp (show i < 2 ^ 31 by omega)]
      by_cases e : zs i = 1
      · rcases H with ⟨_, z⟩ | ⟨r, hr, er, z, u⟩
        · exact absurd e (z i (by omega))
        · rw [er, ← u i (by omega) e] at K
          exact br_t e K
      · refine br_f e (nm_r (nI_1 i) (tr_y_run2 H K n (i + 1) (by omega) (by omega) (fun b hb => ?_)))
        by_cases eb : b = i
        · subst eb; exact e
        · exact N b (by omega)
theorem tr_y_running (H : tr_Rn rn zs) (K : post rn) : wpY_running post (gp, gc, gs, gm, me, le, ae, pe, re, yk, yl, yp, yc, yv, zs, zS, zE, zB, zN, zC) := ⟨7, tr_y_run2 H K 7 0 (by omega) (by omega) (fun b hb => absurd hb (by omega))⟩
end
/-- how many of the numbers below n -/
noncomputable def tr_ct (f : Nat → Prop) : Nat → Nat
  | 0 => 0
  | n + 1 => tr_ct f n + tr_if (f n) 1 0
theorem tr_ct_le {f : Nat → Prop} : ∀ n, tr_ct f n ≤ n
  | 0 => Nat.le_refl 0
  | n + 1 => by
    have := tr_ct_le (f := f) n
    have e : tr_ct f (n + 1) = tr_ct f n + tr_if (f n) 1 0 := rfl
    by_cases z : f n
    · rw [tr_ift z] at e; omega
    · rw [tr_iff z] at e; omega
theorem tr_ct_cg {f f' : Nat → Prop} : ∀ n, (∀ i, i < n → (f i ↔ f' i)) → tr_ct f n = tr_ct f' n
  | 0 => fun _ => rfl
  | n + 1 => fun E => by
    show tr_ct f n + tr_if (f n) 1 0 = tr_ct f' n + tr_if (f' n) 1 0
    rw [tr_ct_cg n (fun i hi => E i (by omega)), tr_ifc (E n (by omega))]
theorem tr_ct_up {f : Nat → Prop} {P : Nat} : ∀ d, (∀ i, P ≤ i → i < P + d → ¬ f i) → tr_ct f (P + d) = tr_ct f P
  | 0 => fun _ => rfl
  | d + 1 => fun E => by
    show tr_ct f (P + d) + tr_if (f (P + d)) 1 0 = _
    rw [tr_ct_up d (fun i h1 h2 => E i h1 (by omega)), tr_iff (E (P + d) (by omega) (by omega))]
    rfl
section
variable {fp fc fs fm md la ar pr ra rn : Int32} {cv sp pl al ob lk ls lp lc lv lb bs bS bE bB bN bP bD kS kV : Nat → Int32} {post : Int32 → Prop}
theorem tr_c8 : nI 8 = 8 := by decide +kernel
theorem tr_x_cp4 {m : Int32} (H : post (nI (tr_ct (fun g => bt m g = true) 8))) : ∀ n i, i ≤ 8 → 8 - i < n → wX_countPages_4 post m fp fc fs fm md la ar pr ra rn cv sp pl al ob lk ls lp lc lv lb bs bS bE bB bN bP bD kS kV n (nI (tr_ct (fun g => bt m g = true) i)) (nI i)
  | 0, _ => fun _ l => absurd l (by omega)
  | n + 1, i => by
    intro li ln
    by_cases ei : i = 8
    · subst ei
      exact br_t (by rw [← tr_c8]; exact nI_le (by omega) (by omega)) H
    · have ih := tr_x_cp4 H n (i + 1) (by omega) (by omega)
      refine br_f (by rw [← tr_c8]; exact nI_ge (by omega) (by omega)) ?_
      by_cases b : bt m i = true
      · rw [show tr_ct (fun g => bt m g = true) (i + 1) = tr_ct (fun g => bt m g = true) i + 1 from (by show _ + tr_if _ _ _ = _; rw [tr_ift b])] at ih
        exact br_f ((tr_bnz (by omega)).mpr b) (nm_r (nI_1 _) (nm_r (nI_1 i) ih))
      · rw [show tr_ct (fun g => bt m g = true) (i + 1) = tr_ct (fun g => bt m g = true) i from (by show _ + tr_if _ _ _ = _; rw [tr_iff b, Nat.add_zero])] at ih
        exact br_t ((tr_bz (by omega)).mpr (tr_bf b)) (nm_r (nI_1 i) ih)
theorem tr_x_countPages {m : Int32} (H : post (nI (tr_ct (fun g => bt m g = true) 8))) : wpX_countPages post (fp, fc, fs, fm, md, la, ar, pr, ra, rn, cv, sp, pl, al, ob, lk, ls, lp, lc, lv, lb, bs, bS, bE, bB, bN, bP, bD, kS, kV) m := ⟨9, tr_x_cp4 H 9 0 (by omega) (by omega)⟩
end
section
variable {gp gc gs gm me le ae pe re : Int32} {yk yl yp yc yv zs zS zE zB zN zC : Nat → Int32} {post : Int32 → Prop}
theorem tr_y_bf90 {x2 : Int32} {P b : Nat} (hP : P ≤ 8) (hb : b < 6) (H : (x2 = 5 → post (nI (tr_ct (fun g => ¬ zC (b * 8 + g) = -1) P))) ∧ (¬ x2 = 5 → ((x2 = 6 → post (nI (tr_ct (fun g => ¬ zC (b * 8 + g) < 0) P))) ∧ (¬ x2 = 6 → post (-1))))) : ∀ n i, i ≤ P → P - i < n → wY_backupField_90 post (nI b) x2 (nI P) gc gs gm me le ae pe re yk yl yp yc yv zs zS zE zB zN zC n (nI (tr_ct (fun g => ¬ zC (b * 8 + g) = -1) i)) (nI (tr_ct (fun g => ¬ zC (b * 8 + g) < 0) i)) (nI i)
  | 0, _ => fun _ l => absurd l (by omega)
  | n + 1, i => by
    intro li ln
    by_cases ei : i = P
    · subst ei
      exact br_t (nI_le (by omega) (by omega)) H
    · have ih := tr_y_bf90 hP hb H n (i + 1) (by omega) (by omega)
      have e8 : nI b * 8 + nI i = nI (b * 8 + i) := by rw [← nI_add, ← pk_mul]; rfl
      have hin : vp_in (nI (b * 8 + i)) 48 := vp_in_nI (by omega) (by decide)
      refine br_f (nI_ge (by omega) (by omega)) ?_
      have tail : wY_backupField_118 post (wY_backupField_90 post (nI b) x2 (nI P) gc gs gm me le ae pe re yk yl yp yc yv zs zS zE zB zN zC n) (nI b) x2 (nI (tr_ct (fun g => ¬ zC (b * 8 + g) = -1) (i + 1))) (nI (tr_ct (fun g => ¬ zC (b * 8 + g) < 0) i)) (nI i) (nI P) gc gs gm me le ae pe re yk yl yp yc yv zs zS zE zB zN zC := by
        unfold wY_backupField_118
        rw [e8, nI_clamp (show b * 8 + i < 2 ^ 31 by omega)]
        refine ⟨hin, ?_⟩
        by_cases q : zC (b * 8 + i) < 0
        · rw [show tr_ct (fun g => ¬ zC (b * 8 + g) < 0) (i + 1) = tr_ct (fun g => ¬ zC (b * 8 + g) < 0) i from (by show _ + tr_if _ _ _ = _; rw [tr_iff (fun z => z q), Nat.add_zero])] at ih
          exact br_t q (nm_r (nI_1 i) ih)
        · rw [show tr_ct (fun g => ¬ zC (b * 8 + g) < 0) (i + 1) = tr_ct (fun g => ¬ zC (b * 8 + g) < 0) i + 1 from (by show _ + tr_if _ _ _ = _; rw [tr_ift q])] at ih
          exact br_f q (nm_r (nI_1 _) (nm_r (nI_1 i) ih))
      rw [e8, nI_clamp (show b * 8 + i < 2 ^ 31 by omega)]
      refine ⟨hin, ?_⟩
      by_cases q : zC (b * 8 + i) = -1
      · rw [show tr_ct (fun g => ¬ zC (b * 8 + g) = -1) (i + 1) = tr_ct (fun g => ¬ zC (b * 8 + g) = -1) i from (by show _ + tr_if _ _ _ = _; rw [tr_iff (fun z => z q), Nat.add_zero])] at tail
        exact br_t q tail
      · rw [show tr_ct (fun g => ¬ zC (b * 8 + g) = -1) (i + 1) = tr_ct (fun g => ¬ zC (b * 8 + g) = -1) i + 1 from (by show _ + tr_if _ _ _ = _; rw [tr_ift q])] at tail
        exact br_f q (nm_r (nI_1 _) tail)
end
section
variable {k P C S M L A Q : Nat} {md ra rn re : Int32} {cv sp pl al ob lk ls lp lc lv lb bs bS bE bB bN bP bD kS kV yk yl yp yc yv zs zS zE zB zN zC : Nat → Int32}
theorem tr_status (R : tr_Rel P C S M L A Q md ra rn cv sp pl al ob lk ls lp lc lv lb bs bS bE bB bN bP bD kS kV re yk yl yp yc yv zs zS zE zB zN zC) (v1 : Int32) : wpX_status (fun r => wpY_status (fun r' => r' = r ∧ i_Rel k (nI P, nI C, nI S, nI M, md, nI L, nI A, nI Q, ra, rn, cv, sp, pl, al, ob, lk, ls, lp, lc, lv, lb, bs, bS, bE, bB, bN, bP, bD, kS, kV) (nI P, nI C, nI S, nI M, md, nI L, nI A, nI Q, re, yk, yl, yp, yc, yv, zs, zS, zE, zB, zN, zC)) (nI P, nI C, nI S, nI M, md, nI L, nI A, nI Q, re, yk, yl, yp, yc, yv, zs, zS, zE, zB, zN, zC) v1) (nI P, nI C, nI S, nI M, md, nI L, nI A, nI Q, ra, rn, cv, sp, pl, al, ob, lk, ls, lp, lc, lv, lb, bs, bS, bE, bB, bN, bP, bD, kS, kV) v1 := by
  have I : i_Rel k (nI P, nI C, nI S, nI M, md, nI L, nI A, nI Q, ra, rn, cv, sp, pl, al, ob, lk, ls, lp, lc, lv, lb, bs, bS, bE, bB, bN, bP, bD, kS, kV) (nI P, nI C, nI S, nI M, md, nI L, nI A, nI Q, re, yk, yl, yp, yc, yv, zs, zS, zE, zB, zN, zC) := tr_mk R
  obtain ⟨hz, hwf, hr, hg, hb, hn, hm⟩ := R
  by_cases a : v1 < 0
  · exact br_t a (br_t a ⟨rfl, I⟩)
  by_cases b : 9 < v1
  · exact br_f a (br_t b (br_f a (br_t b ⟨rfl, I⟩)))
  by_cases e0 : v1 = 0
  · exact br_f a (br_f b (br_t e0 (br_f a (br_f b (br_t e0 ⟨rfl, I⟩)))))
  by_cases e1 : v1 = 1
  · exact br_f a (br_f b (br_f e0 (br_t e1 (br_f a (br_f b (br_f e0 (br_t e1 ⟨rfl, I⟩)))))))
  by_cases e2 : v1 = 2
  · exact br_f a (br_f b (br_f e0 (br_f e1 (br_t e2 (br_f a (br_f b (br_f e0 (br_f e1 (br_t e2 ⟨rfl, I⟩)))))))))
  by_cases e3 : v1 = 3
  · exact br_f a (br_f b (br_f e0 (br_f e1 (br_f e2 (br_t e3 (br_f a (br_f b (br_f e0 (br_f e1 (br_f e2 (br_t e3 ⟨rfl, I⟩)))))))))))
  by_cases e4 : v1 = 4
  · refine br_f a (br_f b (br_f e0 (br_f e1 (br_f e2 (br_f e3 (br_t e4 ?_))))))
    by_cases m2 : md = 2
    · have er : re = ra := by
        rcases hm with ⟨z, _⟩ | ⟨z, _⟩ | ⟨_, _, _, R, z, y, _⟩
        · exact absurd (m2.symm.trans z) (by decide)
        · exact absurd (m2.symm.trans z) (by decide)
        · exact y.trans z.symm
      exact br_t m2 (br_f a (br_f b (br_f e0 (br_f e1 (br_f e2 (br_f e3 (br_t e4 (br_t m2 ⟨er, I⟩))))))))
    · exact br_f m2 (br_f a (br_f b (br_f e0 (br_f e1 (br_f e2 (br_f e3 (br_t e4 (br_f m2 ⟨rfl, I⟩))))))))
  by_cases e5 : v1 = 5
  · exact br_f a (br_f b (br_f e0 (br_f e1 (br_f e2 (br_f e3 (br_f e4 (br_t e5 (br_f a (br_f b (br_f e0 (br_f e1 (br_f e2 (br_f e3 (br_f e4 (br_t e5 (tr_y_running hn ⟨rfl, I⟩))))))))))))))))
  by_cases e6 : v1 = 6
  · exact br_f a (br_f b (br_f e0 (br_f e1 (br_f e2 (br_f e3 (br_f e4 (br_f e5 (br_t e6 (br_f a (br_f b (br_f e0 (br_f e1 (br_f e2 (br_f e3 (br_f e4 (br_f e5 (br_t e6 ⟨rfl, I⟩)))))))))))))))))
  by_cases e7 : v1 = 7
  · exact br_f a (br_f b (br_f e0 (br_f e1 (br_f e2 (br_f e3 (br_f e4 (br_f e5 (br_f e6 (br_t e7 (br_f a (br_f b (br_f e0 (br_f e1 (br_f e2 (br_f e3 (br_f e4 (br_f e5 (br_f e6 (br_t e7 ⟨rfl, I⟩)))))))))))))))))))
  by_cases e8 : v1 = 8
  · exact br_f a (br_f b (br_f e0 (br_f e1 (br_f e2 (br_f e3 (br_f e4 (br_f e5 (br_f e6 (br_f e7 (br_t e8 (br_f a (br_f b (br_f e0 (br_f e1 (br_f e2 (br_f e3 (br_f e4 (br_f e5 (br_f e6 (br_f e7 (br_t e8 ⟨rfl, I⟩)))))))))))))))))))))
  by_cases e9 : v1 = 9
  · exact br_f a (br_f b (br_f e0 (br_f e1 (br_f e2 (br_f e3 (br_f e4 (br_f e5 (br_f e6 (br_f e7 (br_f e8 (br_t e9 (br_f a (br_f b (br_f e0 (br_f e1 (br_f e2 (br_f e3 (br_f e4 (br_f e5 (br_f e6 (br_f e7 (br_f e8 (br_t e9 ⟨rfl, I⟩)))))))))))))))))))))))
  exact br_f a (br_f b (br_f e0 (br_f e1 (br_f e2 (br_f e3 (br_f e4 (br_f e5 (br_f e6 (br_f e7 (br_f e8 (br_f e9 trivial)))))))))))
theorem tr_value (R : tr_Rel P C S M L A Q md ra rn cv sp pl al ob lk ls lp lc lv lb bs bS bE bB bN bP bD kS kV re yk yl yp yc yv zs zS zE zB zN zC) (v1 v2 : Int32) : wpX_value (fun r => wpY_value (fun r' => r' = r ∧ i_Rel k (nI P, nI C, nI S, nI M, md, nI L, nI A, nI Q, ra, rn, cv, sp, pl, al, ob, lk, ls, lp, lc, lv, lb, bs, bS, bE, bB, bN, bP, bD, kS, kV) (nI P, nI C, nI S, nI M, md, nI L, nI A, nI Q, re, yk, yl, yp, yc, yv, zs, zS, zE, zB, zN, zC)) (nI P, nI C, nI S, nI M, md, nI L, nI A, nI Q, re, yk, yl, yp, yc, yv, zs, zS, zE, zB, zN, zC) v1 v2) (nI P, nI C, nI S, nI M, md, nI L, nI A, nI Q, ra, rn, cv, sp, pl, al, ob, lk, ls, lp, lc, lv, lb, bs, bS, bE, bB, bN, bP, bD, kS, kV) v1 v2 := by
  unfold wpX_value
  have I : i_Rel k (nI P, nI C, nI S, nI M, md, nI L, nI A, nI Q, ra, rn, cv, sp, pl, al, ob, lk, ls, lp, lc, lv, lb, bs, bS, bE, bB, bN, bP, bD, kS, kV) (nI P, nI C, nI S, nI M, md, nI L, nI A, nI Q, re, yk, yl, yp, yc, yv, zs, zS, zE, zB, zN, zC) := tr_mk R
  obtain ⟨hz, hwf, hr, hg, hb, hn, hm⟩ := R
  obtain ⟨z1, z2, z3, z4, z5, z6, z7, z8⟩ := hz
  have hL := (hr L (Nat.le_refl L)).1
  rcases tr_cellx v1 v2 z2 z4 with hv | ⟨g, c, hgP, hcC, rfl, rfl⟩
  · refine tr_x_isCell0 hv (br_t rfl ?_)
    by_cases m1 : md = 1
    · exact br_t m1 ⟨rfl, I⟩
    · exact br_f m1 (tr_y_cellOk0 hv (br_t rfl ⟨rfl, I⟩))
  · refine tr_x_isCell1 z2 z4 hgP hcC (br_f (by decide) ?_)
    by_cases m1 : md = 1
    · exact br_t m1 (br_t m1 ⟨rfl, I⟩)
    · refine br_f m1 ?_
      rw [show nI g * 4 + nI c = nI (g * 4 + c) from by rw [← nI_add, ← pk_mul]; rfl, nI_clamp (show g * 4 + c < 2 ^ 31 by omega)]
      refine ⟨vp_in_nI (by omega) (by decide), br_f m1 (tr_y_cellOk1 z2 z4 hgP hcC (br_f (by decide) ?_))⟩
      rcases hm with ⟨rfl, l1, _⟩ | ⟨z, _⟩ | ⟨rfl, _, eA, R, rfl, rfl, l1, _, _, _, _, _, lR⟩
      · exact br_f (by decide) (br_f (by decide) (tr_y_full (by omega) ⟨(l1 g hgP c hcC).symm, I⟩))
      · exact absurd z m1
      · exact br_t rfl (br_t rfl (tr_y_comm (by omega) ⟨(l1 g hgP c hcC).symm, I⟩))
theorem tr_pageStamp (R : tr_Rel P C S M L A Q md ra rn cv sp pl al ob lk ls lp lc lv lb bs bS bE bB bN bP bD kS kV re yk yl yp yc yv zs zS zE zB zN zC) (v1 : Int32) : wpX_pageStamp (fun r => wpY_pageStamp (fun r' => r' = r ∧ i_Rel k (nI P, nI C, nI S, nI M, md, nI L, nI A, nI Q, ra, rn, cv, sp, pl, al, ob, lk, ls, lp, lc, lv, lb, bs, bS, bE, bB, bN, bP, bD, kS, kV) (nI P, nI C, nI S, nI M, md, nI L, nI A, nI Q, re, yk, yl, yp, yc, yv, zs, zS, zE, zB, zN, zC)) (nI P, nI C, nI S, nI M, md, nI L, nI A, nI Q, re, yk, yl, yp, yc, yv, zs, zS, zE, zB, zN, zC) v1) (nI P, nI C, nI S, nI M, md, nI L, nI A, nI Q, ra, rn, cv, sp, pl, al, ob, lk, ls, lp, lc, lv, lb, bs, bS, bE, bB, bN, bP, bD, kS, kV) v1 := by
  unfold wpX_pageStamp
  have I : i_Rel k (nI P, nI C, nI S, nI M, md, nI L, nI A, nI Q, ra, rn, cv, sp, pl, al, ob, lk, ls, lp, lc, lv, lb, bs, bS, bE, bB, bN, bP, bD, kS, kV) (nI P, nI C, nI S, nI M, md, nI L, nI A, nI Q, re, yk, yl, yp, yc, yv, zs, zS, zE, zB, zN, zC) := tr_mk R
  obtain ⟨hz, hwf, hr, hg, hb, hn, hm⟩ := R
  obtain ⟨z1, z2, z3, z4, z5, z6, z7, z8⟩ := hz
  have hL := (hr L (Nat.le_refl L)).1
  rcases pk_ix v1 (n := P) (by omega) with hv | hv | ⟨g, hgP, rfl⟩
  · refine tr_x_isPage0 (Or.inl hv) (br_t rfl ?_)
    by_cases m1 : md = 1
    · exact br_t m1 ⟨rfl, I⟩
    · exact br_f m1 (br_t hv ⟨rfl, I⟩)
  · refine tr_x_isPage0 (Or.inr hv) (br_t rfl ?_)
    by_cases m1 : md = 1
    · exact br_t m1 ⟨rfl, I⟩
    · exact br_f m1 (br_c (fun _ => ⟨rfl, I⟩) (fun _ => br_f (Int32.not_lt.mpr hv) ⟨rfl, I⟩))
  · refine tr_x_isPage1 z2 hgP (br_f (by decide) ?_)
    by_cases m1 : md = 1
    · exact br_t m1 (br_t m1 ⟨rfl, I⟩)
    · refine br_f m1 ⟨vp_in_nI (by omega) (by decide), br_f m1 (br_f (nI_pos (by omega)) (br_t (nI_lt hgP (by omega)) ?_))⟩
      rw [nI_clamp (show g < 2 ^ 31 by omega)]
      rcases hm with ⟨rfl, _, l2, _⟩ | ⟨z, _⟩ | ⟨rfl, _, eA, R, rfl, rfl, _, l2, _, _, _, _, lR⟩
      · exact br_f (by decide) (tr_y_stamp hwf (by omega) (by omega) ⟨(l2 g hgP).symm, I⟩)
      · exact absurd z m1
      · exact br_t rfl (tr_y_stamp (fun q x y => hwf q x (by omega)) (by omega) (by omega) ⟨(l2 g hgP).symm, I⟩)
theorem tr_openSince (R : tr_Rel P C S M L A Q md ra rn cv sp pl al ob lk ls lp lc lv lb bs bS bE bB bN bP bD kS kV re yk yl yp yc yv zs zS zE zB zN zC) (v1 : Int32) : wpX_openSince (fun r => wpY_openSince (fun r' => r' = r ∧ i_Rel k (nI P, nI C, nI S, nI M, md, nI L, nI A, nI Q, ra, rn, cv, sp, pl, al, ob, lk, ls, lp, lc, lv, lb, bs, bS, bE, bB, bN, bP, bD, kS, kV) (nI P, nI C, nI S, nI M, md, nI L, nI A, nI Q, re, yk, yl, yp, yc, yv, zs, zS, zE, zB, zN, zC)) (nI P, nI C, nI S, nI M, md, nI L, nI A, nI Q, re, yk, yl, yp, yc, yv, zs, zS, zE, zB, zN, zC) v1) (nI P, nI C, nI S, nI M, md, nI L, nI A, nI Q, ra, rn, cv, sp, pl, al, ob, lk, ls, lp, lc, lv, lb, bs, bS, bE, bB, bN, bP, bD, kS, kV) v1 := by
  unfold wpX_openSince
  have I : i_Rel k (nI P, nI C, nI S, nI M, md, nI L, nI A, nI Q, ra, rn, cv, sp, pl, al, ob, lk, ls, lp, lc, lv, lb, bs, bS, bE, bB, bN, bP, bD, kS, kV) (nI P, nI C, nI S, nI M, md, nI L, nI A, nI Q, re, yk, yl, yp, yc, yv, zs, zS, zE, zB, zN, zC) := tr_mk R
  obtain ⟨hz, hwf, hr, hg, hb, hn, hm⟩ := R
  obtain ⟨z1, z2, z3, z4, z5, z6, z7, z8⟩ := hz
  have hL := (hr L (Nat.le_refl L)).1
  rcases pk_ix v1 (n := S) (by omega) with hv | hv | ⟨j, hj, rfl⟩
  · refine tr_x_isSlot0 (Or.inl hv) (br_t rfl ?_)
    by_cases m1 : md = 1
    · exact br_t m1 ⟨rfl, I⟩
    · exact br_f m1 (br_t hv ⟨rfl, I⟩)
  · refine tr_x_isSlot0 (Or.inr hv) (br_t rfl ?_)
    by_cases m1 : md = 1
    · exact br_t m1 ⟨rfl, I⟩
    · exact br_f m1 (br_c (fun _ => ⟨rfl, I⟩) (fun _ => br_f (Int32.not_lt.mpr hv) ⟨rfl, I⟩))
  · refine tr_x_isSlot1 z6 hj (br_f (by decide) ?_)
    by_cases m1 : md = 1
    · exact br_t m1 (br_t m1 ⟨rfl, I⟩)
    · refine br_f m1 ⟨vp_in_nI (by omega) (by decide), br_f m1 (br_f (nI_pos (by omega)) (br_t (nI_lt hj (by omega)) ?_))⟩
      rw [nI_clamp (show j < 2 ^ 31 by omega)]
      rcases hm with ⟨rfl, _, _, l3, _⟩ | ⟨z, _⟩ | ⟨rfl, _, eA, R, rfl, rfl, _, _, l3, _, _, _, lR⟩
      · exact br_f (by decide) (tr_y_openAt (by omega) ⟨(l3 j hj).symm, I⟩)
      · exact absurd z m1
      · exact br_t rfl (tr_y_openAt (by omega) ⟨(l3 j hj).symm, I⟩)
theorem tr_recordField (R : tr_Rel P C S M L A Q md ra rn cv sp pl al ob lk ls lp lc lv lb bs bS bE bB bN bP bD kS kV re yk yl yp yc yv zs zS zE zB zN zC) (v1 v2 : Int32) : wpX_recordField (fun r => wpY_recordField (fun r' => r' = r ∧ i_Rel k (nI P, nI C, nI S, nI M, md, nI L, nI A, nI Q, ra, rn, cv, sp, pl, al, ob, lk, ls, lp, lc, lv, lb, bs, bS, bE, bB, bN, bP, bD, kS, kV) (nI P, nI C, nI S, nI M, md, nI L, nI A, nI Q, re, yk, yl, yp, yc, yv, zs, zS, zE, zB, zN, zC)) (nI P, nI C, nI S, nI M, md, nI L, nI A, nI Q, re, yk, yl, yp, yc, yv, zs, zS, zE, zB, zN, zC) v1 v2) (nI P, nI C, nI S, nI M, md, nI L, nI A, nI Q, ra, rn, cv, sp, pl, al, ob, lk, ls, lp, lc, lv, lb, bs, bS, bE, bB, bN, bP, bD, kS, kV) v1 v2 := by
  have I : i_Rel k (nI P, nI C, nI S, nI M, md, nI L, nI A, nI Q, ra, rn, cv, sp, pl, al, ob, lk, ls, lp, lc, lv, lb, bs, bS, bE, bB, bN, bP, bD, kS, kV) (nI P, nI C, nI S, nI M, md, nI L, nI A, nI Q, re, yk, yl, yp, yc, yv, zs, zS, zE, zB, zN, zC) := tr_mk R
  obtain ⟨hz, hwf, hr, hg, hb, hn, hm⟩ := R
  obtain ⟨z1, z2, z3, z4, z5, z6, z7, z8⟩ := hz
  have hL := (hr L (Nat.le_refl L)).1
  by_cases a : v1 ≤ nI Q
  · exact br_t a (br_t a ⟨rfl, I⟩)
  by_cases b : v1 ≤ nI L
  · have v0 : ¬ v1 < 0 := fun z => a (Int32.le_of_lt (Int32.lt_of_lt_of_le z (nI_pos' (by
      rcases hm with ⟨_, _, _, _, _, _, _, x, y⟩ | ⟨_, _, _, x, y⟩ | ⟨_, _, x, R, _, _, _, _, _, _, _, y, w⟩ <;> omega))))
    obtain ⟨q, hq, rfl⟩ := nI_of v0
    rw [nI_leI hq (by omega)] at b
    have a' : Q < q := by
      rw [nI_leI hq (by
        rcases hm with ⟨_, _, _, _, _, _, _, x, y⟩ | ⟨_, _, _, x, y⟩ | ⟨_, _, x, R, _, _, _, _, _, _, _, y, w⟩ <;> omega)] at a
      omega
    have b' : nI q ≤ nI L := nI_le b (by omega)
    have a2 : ¬ nI q ≤ nI Q := nI_ge a' (by omega)
    obtain ⟨x1, x2, x3, x4, x5, _⟩ := hg q a' b
    have hin : vp_in (nI (q % 96)) 96 := vp_in_nI (Nat.mod_lt _ (by decide)) (by decide)
    have hinq : vp_in (nI q) 257 := vp_in_nI (by omega) (by decide)
    have hc : (nI q).toNatClampNeg = q := nI_clamp (by omega)
    have hm96 : q % 96 < 96 := Nat.mod_lt _ (by decide)
    refine br_f a2 (br_t b' ⟨by decide, nm_r (tr_rem hq) ?_⟩)
    rw [nI_clamp (show q % 96 < 2 ^ 31 by omega), x1, x2, x3, x4, x5]
    have Yw : ∀ {pp : Int32 → Prop}, ((v2 = 0 → pp (yk q)) ∧ (¬ v2 = 0 → ((v2 = 1 → pp (yl q)) ∧ (¬ v2 = 1 → ((v2 = 2 → pp (yp q)) ∧ (¬ v2 = 2 → ((v2 = 3 → pp (yc q)) ∧ (¬ v2 = 3 → ((v2 = 4 → pp (yv q)) ∧ (¬ v2 = 4 → pp 0)))))))))) → wpY_recordField pp (nI P, nI C, nI S, nI M, md, nI L, nI A, nI Q, re, yk, yl, yp, yc, yv, zs, zS, zE, zB, zN, zC) (nI q) v2 := fun z => by
      refine br_f a2 (br_t b' ?_)
      rw [hc]
      exact ⟨fun e => ⟨hinq, z.1 e⟩, fun e => ⟨fun e1 => ⟨hinq, (z.2 e).1 e1⟩, fun e1 => ⟨fun e2 => ⟨hinq, ((z.2 e).2 e1).1 e2⟩, fun e2 => ⟨fun e3 => ⟨hinq, (((z.2 e).2 e1).2 e2).1 e3⟩, fun e3 => ⟨fun e4 => ⟨hinq, ((((z.2 e).2 e1).2 e2).2 e3).1 e4⟩, fun e4 => ((((z.2 e).2 e1).2 e2).2 e3).2 e4⟩⟩⟩⟩⟩
    by_cases e0 : v2 = 0
    · subst e0
      exact br_f (by decide) (br_f (by decide) (br_t rfl ⟨hin, Yw (br_t rfl ⟨rfl, I⟩)⟩))
    by_cases e1 : v2 = 1
    · subst e1
      exact br_f (by decide) (br_f (by decide) (br_f e0 (br_t rfl ⟨hin, Yw (br_f e0 (br_t rfl ⟨rfl, I⟩))⟩)))
    by_cases e2 : v2 = 2
    · subst e2
      exact br_f (by decide) (br_f (by decide) (br_f e0 (br_f e1 (br_t rfl ⟨hin, Yw (br_f e0 (br_f e1 (br_t rfl ⟨rfl, I⟩)))⟩))))
    by_cases e3 : v2 = 3
    · subst e3
      exact br_f (by decide) (br_f (by decide) (br_f e0 (br_f e1 (br_f e2 (br_t rfl ⟨hin, Yw (br_f e0 (br_f e1 (br_f e2 (br_t rfl ⟨rfl, I⟩))))⟩)))))
    by_cases e4 : v2 = 4
    · subst e4
      exact br_f (by decide) (br_f (by decide) (br_f e0 (br_f e1 (br_f e2 (br_f e3 (br_t rfl ⟨hin, Yw (br_f e0 (br_f e1 (br_f e2 (br_f e3 (br_t rfl ⟨rfl, I⟩)))))⟩))))))
    have Y0 := Yw (pp := fun r' => r' = 0 ∧ i_Rel k (nI P, nI C, nI S, nI M, md, nI L, nI A, nI Q, ra, rn, cv, sp, pl, al, ob, lk, ls, lp, lc, lv, lb, bs, bS, bE, bB, bN, bP, bD, kS, kV) (nI P, nI C, nI S, nI M, md, nI L, nI A, nI Q, re, yk, yl, yp, yc, yv, zs, zS, zE, zB, zN, zC)) (br_f e0 (br_f e1 (br_f e2 (br_f e3 (br_f e4 ⟨rfl, I⟩)))))
    exact br_c (fun _ => Y0) (fun _ => br_c (fun _ => Y0) (fun _ => br_f e0 (br_f e1 (br_f e2 (br_f e3 (br_f e4 trivial))))))
  · exact br_f a (br_f b (br_f a (br_f b ⟨rfl, I⟩)))
end
end
section
/-! committedValue, and the getters of the backups -/
section
variable {fp fc fs fm md la ar pr ra rn : Int32} {cv sp pl al ob lk ls lp lc lv lb bs bS bE bB bN bP bD kS kV : Nat → Int32} {post : Int32 → Prop}
theorem tr_x_cv66 {P C S Q L g c : Nat} {h : Nat → tr_R} (W : tr_wf P C S h L) (hS : S ≤ 4) (hL : L ≤ 256) (hg : g < 8) (ho : tr_Ob S h L ob) (G : tr_Rg h Q L lk ls lp lc lv lb) (H : post (tr_F h (nI g) (nI c) (tr_kE h (fun _ => False) (fun _ => True) L Q) L)) : ∀ n m, Q ≤ m → m ≤ L → m - Q < n → wX_committedValue_66 post (nI g) (nI c) fp fc fs fm md la ar (nI Q) ra rn cv sp pl al ob lk ls lp lc lv lb bs bS bE bB bN bP bD kS kV n (tr_F h (nI g) (nI c) (tr_kE h (fun _ => False) (fun _ => True) L m) L) (nI m)
  | 0, _ => fun _ _ l => absurd l (by omega)
  | n + 1, m => by
    intro l1 l2 ln
    by_cases em : m = Q
    · subst em
      exact br_t (nI_le (Nat.le_refl m) (by omega)) H
    · obtain ⟨m, rfl⟩ : ∃ i, m = i + 1 := ⟨m - 1, by omega⟩
      obtain ⟨r1, r2, r3, r4, r5, r6⟩ := G (m + 1) (by omega) l2
      have hlt : (m + 1) % 96 < 96 := Nat.mod_lt _ (by decide)
      have hin : vp_in (nI ((m + 1) % 96)) 96 := vp_in_nI hlt (by decide)
      have ih := tr_x_cv66 W hS hL hg ho G H n m (by omega) (by omega) (by omega)
      have skip : ¬ (tr_on h (nI g) (nI c) (m + 1) ∧ tr_ft h (m + 1) L = 0) → wX_committedValue_66 post (nI g) (nI c) fp fc fs fm md la ar (nI Q) ra rn cv sp pl al ob lk ls lp lc lv lb bs bS bE bB bN bP bD kS kV n (tr_F h (nI g) (nI c) (tr_kE h (fun _ => False) (fun _ => True) L (m + 1)) L) (nI m) := fun z => by
        rw [← tr_Vn (E := fun _ => True) (fun y => z ⟨y.1, y.2.1⟩)]
        exact ih
      refine br_f (nI_ge (by omega) (by omega)) ⟨by decide, nm_r (tr_rem (by omega)) ⟨hin, ?_⟩⟩
      obtain ⟨s, hs, es⟩ := (W (m + 1) (by omega) l2).1
      rw [nI_clamp (show (m + 1) % 96 < 2 ^ 31 by omega), r3, r4, r2, es, nI_clamp (show s < 2 ^ 31 by omega), ho s hs, r1, r5]
      have lo := tr_op_le (h := h) (s := nI s) L
      by_cases eg : (h (m + 1)).2.2.1 = nI g
      · by_cases ec : (h (m + 1)).2.2.2.1 = nI c
        · have o : tr_on h (nI g) (nI c) (m + 1) := ⟨eg, ec⟩
          have hk := (tr_on_k W (show g < 2 ^ 31 by omega) (by omega) l2 o).1
          have fo := tr_ft_op (q := m + 1) (by omega) L l2 W
          rw [es] at fo
          refine br_t eg ⟨hin, br_t ec ⟨hin, vp_in_nI (by omega) (by decide), nm_e ?_⟩⟩
          by_cases z : tr_op h (nI s) L = 0
          · exact br_t (by rw [z]; rfl) (nm_r (pk_m1 m) (skip (fun y => (fo.mp y.2).1 z)))
          · refine br_f (nI_ne0 (by omega) (by omega)) ?_
            by_cases l : m + 1 ≤ tr_op h (nI s) L
            · refine br_t (nI_le l (by omega)) (nm_r (pk_m1 m) (skip (fun y => ?_)))
              have b1 := (tr_op_sp L z).1
              rw [show tr_op h (nI s) L = m + 1 by have := (fo.mp y.2).2; omega] at b1
              rcases hk with hk | hk <;> exact absurd (b1.symm.trans hk) (by decide)
            · have f0 : tr_ft h (m + 1) L = 0 := fo.mpr ⟨z, by omega⟩
              refine br_f (nI_ge (by omega) (by omega)) ⟨hin, ?_⟩
              by_cases k2 : (h (m + 1)).1 = 2
              · refine br_t k2 ⟨hin, nm_r ?_ (nm_r (pk_m1 m) ih)⟩
                rw [r6 k2, eg, ec, Nat.add_sub_cancel]
                exact (tr_V2 (E := fun _ => True) W (by omega) l2 o f0 trivial (fun _ _ z => z) k2).symm
              · refine br_f k2 ⟨hin, nm_r ?_ (nm_r (pk_m1 m) ih)⟩
                exact (tr_V3 (E := fun _ => True) W (by omega) l2 o f0 trivial (fun _ _ z => z) (hk.resolve_left k2)).symm
        · exact br_t eg ⟨hin, br_f ec (nm_r (pk_m1 m) (skip (fun y => ec y.1.2)))⟩
      · exact br_f eg (nm_r (pk_m1 m) (skip (fun y => eg y.1.1)))
end
section
variable {k P C S M L A Q : Nat} {md ra rn re : Int32} {cv sp pl al ob lk ls lp lc lv lb bs bS bE bB bN bP bD kS kV yk yl yp yc yv zs zS zE zB zN zC : Nat → Int32}
theorem tr_committedValue (R : tr_Rel P C S M L A Q md ra rn cv sp pl al ob lk ls lp lc lv lb bs bS bE bB bN bP bD kS kV re yk yl yp yc yv zs zS zE zB zN zC) (v1 v2 : Int32) : wpX_committedValue (fun r => wpY_committedValue (fun r' => r' = r ∧ i_Rel k (nI P, nI C, nI S, nI M, md, nI L, nI A, nI Q, ra, rn, cv, sp, pl, al, ob, lk, ls, lp, lc, lv, lb, bs, bS, bE, bB, bN, bP, bD, kS, kV) (nI P, nI C, nI S, nI M, md, nI L, nI A, nI Q, re, yk, yl, yp, yc, yv, zs, zS, zE, zB, zN, zC)) (nI P, nI C, nI S, nI M, md, nI L, nI A, nI Q, re, yk, yl, yp, yc, yv, zs, zS, zE, zB, zN, zC) v1 v2) (nI P, nI C, nI S, nI M, md, nI L, nI A, nI Q, ra, rn, cv, sp, pl, al, ob, lk, ls, lp, lc, lv, lb, bs, bS, bE, bB, bN, bP, bD, kS, kV) v1 v2 := by
  unfold wpX_committedValue
  have I : i_Rel k (nI P, nI C, nI S, nI M, md, nI L, nI A, nI Q, ra, rn, cv, sp, pl, al, ob, lk, ls, lp, lc, lv, lb, bs, bS, bE, bB, bN, bP, bD, kS, kV) (nI P, nI C, nI S, nI M, md, nI L, nI A, nI Q, re, yk, yl, yp, yc, yv, zs, zS, zE, zB, zN, zC) := tr_mk R
  obtain ⟨hz, hwf, hr, hg, hb, hn, hm⟩ := R
  obtain ⟨z1, z2, z3, z4, z5, z6, z7, z8⟩ := hz
  have hL := (hr L (Nat.le_refl L)).1
  rcases tr_cellx v1 v2 z2 z4 with hv | ⟨g, c, hgP, hcC, rfl, rfl⟩
  · refine tr_x_isCell0 hv (br_t rfl ?_)
    by_cases m1 : md = 1
    · exact br_t m1 ⟨rfl, I⟩
    · exact br_f m1 (tr_y_cellOk0 hv (br_t rfl ⟨rfl, I⟩))
  · refine tr_x_isCell1 z2 z4 hgP hcC (br_f (by decide) ?_)
    by_cases m1 : md = 1
    · exact br_t m1 (br_t m1 ⟨rfl, I⟩)
    · have hix : vp_in (nI (g * 4 + c)) 32 := vp_in_nI (by omega) (by decide)
      refine br_f m1 (nm_r (e' := nI (g * 4 + c)) (by rw [← nI_add, ← pk_mul]; rfl) ⟨hix, nm_e ?_⟩)
      rw [nI_clamp (show g * 4 + c < 2 ^ 31 by omega)]
      rcases hm with ⟨rfl, l1, l2, l3, l4, l5, l6, l7, l8⟩ | ⟨z, _⟩ | ⟨rfl, _, eA, R, rfl, rfl, l1, _, _, _, _, _, lR⟩
      · have Ys : ∀ {pp : Int32 → Prop}, pp (tr_co (tr_h yk yl yp yc yv) (nI g) (nI c) L) → wpY_committedValue pp (nI P, nI C, nI S, nI M, 0, nI L, nI A, nI Q, re, yk, yl, yp, yc, yv, zs, zS, zE, zB, zN, zC) (nI g) (nI c) := fun z => br_f (by decide) (tr_y_cellOk1 z2 z4 hgP hcC (br_f (by decide) (br_f (by decide) (tr_y_comm (by omega) z))))
        refine br_f (by decide) ⟨hix, hix, ?_⟩
        by_cases zz : (pl (g * 4 + c) ||| al (g * 4 + c)) = 0
        · refine br_t zz (Ys ⟨?_, I⟩)
          rw [l1 g hgP c hcC]
          show _ = tr_fu (tr_h yk yl yp yc yv) (nI g) (nI c) L
          rw [← tr_kD_0, tr_kD_1]
          intro q h1 h2 o f
          obtain ⟨s, hs, es⟩ := (hwf q h1 h2).1
          have hk := (tr_on_k hwf (show g < 2 ^ 31 by omega) h1 h2 o).1
          have hb0 := tr_b_eq0.mp zz s (by omega)
          rw [b_or, Bool.or_eq_false_iff] at hb0
          rcases hk with hk | hk
          · have := (l4 g hgP c hcC s (by omega)).mpr ⟨q, h1, h2, o, es, hk, f⟩
            rw [hb0.1] at this; exact absurd this (by decide)
          · have := (l5 g hgP c hcC s (by omega)).mpr ⟨q, h1, h2, o, es, hk, f⟩
            rw [hb0.2] at this; exact absurd this (by decide)
        · refine br_f zz ⟨L + 1, ?_⟩
          rw [show cv (g * 4 + c) = tr_F (tr_h yk yl yp yc yv) (nI g) (nI c) (tr_kE (tr_h yk yl yp yc yv) (fun _ => False) (fun _ => True) L L) L from by rw [tr_V0, tr_kD_0]; exact l1 g hgP c hcC]
          refine tr_x_cv66 hwf z6 (by omega) (by omega) l3 hg (Ys ⟨?_, I⟩) (L + 1) L (by omega) (by omega) (by omega)
          rw [tr_V1 (E := fun _ => True), tr_kD_1]
          · intro q h1 h2 o f
            exact Or.inr trivial
          · intro q h1 h2 o f _
            obtain ⟨s, hs, es⟩ := (hwf q h1 h2).1
            have fo := (tr_ft_op h1 L h2 hwf).mp f
            rw [es] at fo
            have := l6 s hs fo.1
            omega
      · exact absurd z m1
      · exact br_t rfl (br_f m1 (tr_y_cellOk1 z2 z4 hgP hcC (br_f (by decide) (br_t rfl (tr_y_comm (by omega) ⟨(l1 g hgP c hcC).symm, I⟩)))))
theorem tr_ct_8 {f : Nat → Prop} {P : Nat} (hP : P ≤ 8) (E : ∀ i, P ≤ i → i < 8 → ¬ f i) : tr_ct f 8 = tr_ct f P := by
  have e := tr_ct_up (f := f) (P := P) (8 - P) (fun i h1 h2 => E i h1 (by omega))
  rwa [show P + (8 - P) = 8 by omega] at e
theorem tr_m1lt : (-1 : Int32) < 0 := by decide
theorem tr_m2lt : (-2 : Int32) < 0 := by decide
theorem tr_backupField (R : tr_Rel P C S M L A Q md ra rn cv sp pl al ob lk ls lp lc lv lb bs bS bE bB bN bP bD kS kV re yk yl yp yc yv zs zS zE zB zN zC) (v1 v2 : Int32) : wpX_backupField (fun r => wpY_backupField (fun r' => r' = r ∧ i_Rel k (nI P, nI C, nI S, nI M, md, nI L, nI A, nI Q, ra, rn, cv, sp, pl, al, ob, lk, ls, lp, lc, lv, lb, bs, bS, bE, bB, bN, bP, bD, kS, kV) (nI P, nI C, nI S, nI M, md, nI L, nI A, nI Q, re, yk, yl, yp, yc, yv, zs, zS, zE, zB, zN, zC)) (nI P, nI C, nI S, nI M, md, nI L, nI A, nI Q, re, yk, yl, yp, yc, yv, zs, zS, zE, zB, zN, zC) v1 v2) (nI P, nI C, nI S, nI M, md, nI L, nI A, nI Q, ra, rn, cv, sp, pl, al, ob, lk, ls, lp, lc, lv, lb, bs, bS, bE, bB, bN, bP, bD, kS, kV) v1 v2 := by
  unfold wpX_backupField
  have I : i_Rel k (nI P, nI C, nI S, nI M, md, nI L, nI A, nI Q, ra, rn, cv, sp, pl, al, ob, lk, ls, lp, lc, lv, lb, bs, bS, bE, bB, bN, bP, bD, kS, kV) (nI P, nI C, nI S, nI M, md, nI L, nI A, nI Q, re, yk, yl, yp, yc, yv, zs, zS, zE, zB, zN, zC) := tr_mk R
  obtain ⟨hz, hwf, hr, hg, ⟨eS, eN, eE, rk, hb⟩, hn, hm⟩ := R
  obtain ⟨z1, z2, z3, z4, z5, z6, z7, z8⟩ := hz
  have hL := (hr L (Nat.le_refl L)).1
  rcases pk_ix v1 (n := 6) (by omega) with hv | hv | ⟨b, hb6, rfl⟩
  · exact tr_x_isBackup0 (Or.inl hv) (br_t rfl (br_t hv ⟨rfl, I⟩))
  · exact tr_x_isBackup0 (Or.inr hv) (br_t rfl (br_c (fun _ => ⟨rfl, I⟩) (fun _ => br_f (Int32.not_lt.mpr (by rw [← tr_c6]; exact hv)) ⟨rfl, I⟩)))
  · obtain ⟨x1, x2, x3⟩ := hb b hb6
    have hin : vp_in (nI b) 6 := vp_in_nI hb6 (by decide)
    have hc : (nI b).toNatClampNeg = b := nI_clamp (by omega)
    have Y0 : ∀ {pp : Int32 → Prop}, ((v2 = 0 → pp (zs b)) ∧ (¬ v2 = 0 → ((zs b = 0 → pp (-1)) ∧ (¬ zs b = 0 → ((v2 = 1 → pp (zS b)) ∧ (¬ v2 = 1 → ((v2 = 2 → pp (zE b)) ∧ (¬ v2 = 2 → ((v2 = 3 → pp (zB b)) ∧ (¬ v2 = 3 → ((v2 = 4 → pp (zN b)) ∧ (¬ v2 = 4 → ∃ n, wY_backupField_90 pp (nI b) v2 (nI P) (nI C) (nI S) (nI M) md (nI L) (nI A) (nI Q) re yk yl yp yc yv zs zS zE zB zN zC n 0 0 0)))))))))))) → wpY_backupField pp (nI P, nI C, nI S, nI M, md, nI L, nI A, nI Q, re, yk, yl, yp, yc, yv, zs, zS, zE, zB, zN, zC) (nI b) v2 := fun z => by
      refine br_f (nI_pos (by omega)) (br_t (by rw [← tr_c6]; exact nI_lt hb6 (by decide)) ?_)
      rw [hc]
      exact ⟨fun e => ⟨hin, z.1 e⟩, fun e => ⟨hin, fun s => (z.2 e).1 s, fun s => ⟨fun e1 => ⟨hin, ((z.2 e).2 s).1 e1⟩, fun e1 => ⟨fun e2 => ⟨hin, (((z.2 e).2 s).2 e1).1 e2⟩, fun e2 => ⟨fun e3 => ⟨hin, ((((z.2 e).2 s).2 e1).2 e2).1 e3⟩, fun e3 => ⟨fun e4 => ⟨hin, (((((z.2 e).2 s).2 e1).2 e2).2 e3).1 e4⟩, fun e4 => (((((z.2 e).2 s).2 e1).2 e2).2 e3).2 e4⟩⟩⟩⟩⟩⟩
    refine tr_x_isBackup1 hb6 (br_f (by decide) ?_)
    rw [hc, x1]
    by_cases e0 : v2 = 0
    · exact br_t e0 ⟨hin, Y0 (br_t e0 ⟨rfl, I⟩)⟩
    refine br_f e0 ⟨hin, ?_⟩
    by_cases s0 : zs b = 0
    · exact br_t s0 (Y0 (br_f e0 (br_t s0 ⟨rfl, I⟩)))
    refine br_f s0 ?_
    obtain ⟨⟨a1, a2, a3⟩, ⟨b1, b2, b3, b4, b5⟩, ⟨c1, c2, c3⟩, ⟨d1, d2⟩, p1, f1⟩ := x3 s0
    rw [a1, c1, d1, b1]
    have cP : tr_ct (fun g => bt (bP b) g = true) 8 = tr_ct (fun g => ¬ zC (b * 8 + g) = -1) P := by
      refine (tr_ct_8 z2 (fun i h1 h2 => by rw [(p1 i (by omega) h1).1]; decide)).trans (tr_ct_cg P (fun g hg => ?_))
      rcases f1 g hg with ⟨y1, y2, y3⟩ | ⟨y1, y2, y3, y4⟩ | ⟨K, y1, y2, y3, y4, y5, y6, y7, y8⟩
      · rw [y1, y2]; decide
      · rw [y1, y3]; decide
      · rw [y1, y5]
        exact ⟨fun _ z => tr_m1ne (show K < 2 ^ 31 by omega) z.symm, fun _ => rfl⟩
    have cD : tr_ct (fun g => bt (bD b) g = true) 8 = tr_ct (fun g => ¬ zC (b * 8 + g) < 0) P := by
      refine (tr_ct_8 z2 (fun i h1 h2 => by rw [(p1 i (by omega) h1).2]; decide)).trans (tr_ct_cg P (fun g hg => ?_))
      rcases f1 g hg with ⟨y1, y2, y3⟩ | ⟨y1, y2, y3, y4⟩ | ⟨K, y1, y2, y3, y4, y5, y6, y7, y8⟩
      · rw [y1, y3]; decide
      · rw [y1, y4]; decide
      · rw [y1, y6]
        exact ⟨fun _ => nI_pos (by omega), fun _ => rfl⟩
    have Y9 : ∀ {pp : Int32 → Prop}, ((v2 = 5 → pp (nI (tr_ct (fun g => ¬ zC (b * 8 + g) = -1) P))) ∧ (¬ v2 = 5 → ((v2 = 6 → pp (nI (tr_ct (fun g => ¬ zC (b * 8 + g) < 0) P))) ∧ (¬ v2 = 6 → pp (-1))))) → ∃ n, wY_backupField_90 pp (nI b) v2 (nI P) (nI C) (nI S) (nI M) md (nI L) (nI A) (nI Q) re yk yl yp yc yv zs zS zE zB zN zC n 0 0 0 := fun z => ⟨P + 1, tr_y_bf90 z2 hb6 z (P + 1) 0 (by omega) (by omega)⟩
    by_cases e1 : v2 = 1
    · subst e1
      exact br_f (by decide) (br_f (by decide) (br_t rfl ⟨hin, Y0 (br_f e0 (br_f s0 (br_t rfl ⟨a2, I⟩)))⟩))
    by_cases e2 : v2 = 2
    · subst e2
      exact br_f (by decide) (br_f (by decide) (br_f e1 (br_t rfl ⟨hin, Y0 (br_f e0 (br_f s0 (br_f e1 (br_t rfl ⟨rfl, I⟩))))⟩)))
    by_cases e3 : v2 = 3
    · subst e3
      exact br_f (by decide) (br_f (by decide) (br_f e1 (br_f e2 (br_t rfl ⟨hin, Y0 (br_f e0 (br_f s0 (br_f e1 (br_f e2 (br_t rfl ⟨rfl, I⟩)))))⟩))))
    by_cases e4 : v2 = 4
    · subst e4
      exact br_f (by decide) (br_f (by decide) (br_f e1 (br_f e2 (br_f e3 (br_t rfl ⟨hin, Y0 (br_f e0 (br_f s0 (br_f e1 (br_f e2 (br_f e3 (br_t rfl ⟨b2, I⟩))))))⟩)))))
    by_cases e5 : v2 = 5
    · subst e5
      have YY := Y0 (pp := fun r' => r' = nI (tr_ct (fun g => bt (bP b) g = true) 8) ∧ i_Rel k (nI P, nI C, nI S, nI M, md, nI L, nI A, nI Q, ra, rn, cv, sp, pl, al, ob, lk, ls, lp, lc, lv, lb, bs, bS, bE, bB, bN, bP, bD, kS, kV) (nI P, nI C, nI S, nI M, md, nI L, nI A, nI Q, re, yk, yl, yp, yc, yv, zs, zS, zE, zB, zN, zC)) (br_f e0 (br_f s0 (br_f e1 (br_f e2 (br_f e3 (br_f e4 (Y9 (br_t rfl ⟨by rw [cP], I⟩))))))))
      exact br_f (by decide) (br_f (by decide) (br_f e1 (br_f e2 (br_f e3 (br_f e4 (br_t rfl ⟨hin, tr_x_countPages YY⟩))))))
    by_cases e6 : v2 = 6
    · subst e6
      have YY := Y0 (pp := fun r' => r' = nI (tr_ct (fun g => bt (bD b) g = true) 8) ∧ i_Rel k (nI P, nI C, nI S, nI M, md, nI L, nI A, nI Q, ra, rn, cv, sp, pl, al, ob, lk, ls, lp, lc, lv, lb, bs, bS, bE, bB, bN, bP, bD, kS, kV) (nI P, nI C, nI S, nI M, md, nI L, nI A, nI Q, re, yk, yl, yp, yc, yv, zs, zS, zE, zB, zN, zC)) (br_f e0 (br_f s0 (br_f e1 (br_f e2 (br_f e3 (br_f e4 (Y9 (br_f e5 (br_t rfl ⟨by rw [cD], I⟩)))))))))
      exact br_f (by decide) (br_f (by decide) (br_f e1 (br_f e2 (br_f e3 (br_f e4 (br_f e5 (br_t rfl ⟨hin, tr_x_countPages YY⟩)))))))
    have YE := Y0 (pp := fun r' => r' = -1 ∧ i_Rel k (nI P, nI C, nI S, nI M, md, nI L, nI A, nI Q, ra, rn, cv, sp, pl, al, ob, lk, ls, lp, lc, lv, lb, bs, bS, bE, bB, bN, bP, bD, kS, kV) (nI P, nI C, nI S, nI M, md, nI L, nI A, nI Q, re, yk, yl, yp, yc, yv, zs, zS, zE, zB, zN, zC)) (br_f e0 (br_f s0 (br_f e1 (br_f e2 (br_f e3 (br_f e4 (Y9 (br_f e5 (br_f e6 ⟨rfl, I⟩)))))))))
    exact br_c (fun _ => YE) (fun _ => br_c (fun _ => YE) (fun _ => br_f e1 (br_f e2 (br_f e3 (br_f e4 (br_f e5 (br_f e6 trivial)))))))
theorem tr_copyStamp (R : tr_Rel P C S M L A Q md ra rn cv sp pl al ob lk ls lp lc lv lb bs bS bE bB bN bP bD kS kV re yk yl yp yc yv zs zS zE zB zN zC) (v1 v2 : Int32) : wpX_copyStamp (fun r => wpY_copyStamp (fun r' => r' = r ∧ i_Rel k (nI P, nI C, nI S, nI M, md, nI L, nI A, nI Q, ra, rn, cv, sp, pl, al, ob, lk, ls, lp, lc, lv, lb, bs, bS, bE, bB, bN, bP, bD, kS, kV) (nI P, nI C, nI S, nI M, md, nI L, nI A, nI Q, re, yk, yl, yp, yc, yv, zs, zS, zE, zB, zN, zC)) (nI P, nI C, nI S, nI M, md, nI L, nI A, nI Q, re, yk, yl, yp, yc, yv, zs, zS, zE, zB, zN, zC) v1 v2) (nI P, nI C, nI S, nI M, md, nI L, nI A, nI Q, ra, rn, cv, sp, pl, al, ob, lk, ls, lp, lc, lv, lb, bs, bS, bE, bB, bN, bP, bD, kS, kV) v1 v2 := by
  unfold wpX_copyStamp
  have I : i_Rel k (nI P, nI C, nI S, nI M, md, nI L, nI A, nI Q, ra, rn, cv, sp, pl, al, ob, lk, ls, lp, lc, lv, lb, bs, bS, bE, bB, bN, bP, bD, kS, kV) (nI P, nI C, nI S, nI M, md, nI L, nI A, nI Q, re, yk, yl, yp, yc, yv, zs, zS, zE, zB, zN, zC) := tr_mk R
  obtain ⟨hz, hwf, hr, hg, ⟨eS, eN, eE, rk, hb⟩, hn, hm⟩ := R
  obtain ⟨z1, z2, z3, z4, z5, z6, z7, z8⟩ := hz
  have hL := (hr L (Nat.le_refl L)).1
  rcases pk_ix v1 (n := 6) (by omega) with hv | hv | ⟨b, hb6, rfl⟩
  · exact tr_x_isBackup0 (Or.inl hv) (br_t rfl (br_t hv ⟨rfl, I⟩))
  · exact tr_x_isBackup0 (Or.inr hv) (br_t rfl (br_c (fun _ => ⟨rfl, I⟩) (fun _ => br_t (by rw [← tr_c6]; exact hv) ⟨rfl, I⟩)))
  · obtain ⟨x1, x2, x3⟩ := hb b hb6
    have hin : vp_in (nI b) 6 := vp_in_nI hb6 (by decide)
    have hc : (nI b).toNatClampNeg = b := nI_clamp (by omega)
    have b0 : ¬ nI b < 0 := nI_pos (by omega)
    have b6 : ¬ 6 ≤ nI b := by rw [← tr_c6]; exact nI_ge hb6 (by decide)
    refine tr_x_isBackup1 hb6 (br_f (by decide) ?_)
    rcases pk_ix v2 (n := P) (by omega) with hv | hv | ⟨g, hgP, rfl⟩
    · exact tr_x_isPage0 (Or.inl hv) (br_t rfl (br_f b0 (br_f b6 (br_t hv ⟨rfl, I⟩))))
    · exact tr_x_isPage0 (Or.inr hv) (br_t rfl (br_f b0 (br_f b6 (br_c (fun _ => ⟨rfl, I⟩) (fun _ => br_t hv ⟨rfl, I⟩)))))
    · have g0 : ¬ nI g < 0 := nI_pos (by omega)
      have gP : ¬ nI P ≤ nI g := nI_ge hgP (by omega)
      have e8 : nI b * 8 + nI g = nI (b * 8 + g) := by rw [← nI_add, ← pk_mul]; rfl
      have hi8 : vp_in (nI (b * 8 + g)) 48 := vp_in_nI (by omega) (by decide)
      have hc8 : (nI (b * 8 + g)).toNatClampNeg = b * 8 + g := nI_clamp (by omega)
      have Y0 : ∀ {pp : Int32 → Prop}, ((zs b = 0 → pp (-1)) ∧ (¬ zs b = 0 → ((0 ≤ zC (b * 8 + g) → wpY_stamp (fun r => pp r) (nI P, nI C, nI S, nI M, md, nI L, nI A, nI Q, re, yk, yl, yp, yc, yv, zs, zS, zE, zB, zN, zC) (nI g) (zC (b * 8 + g))) ∧ (¬ 0 ≤ zC (b * 8 + g) → pp (zC (b * 8 + g)))))) → wpY_copyStamp pp (nI P, nI C, nI S, nI M, md, nI L, nI A, nI Q, re, yk, yl, yp, yc, yv, zs, zS, zE, zB, zN, zC) (nI b) (nI g) := fun z => by
        refine br_f b0 (br_f b6 (br_f g0 (br_f gP ⟨hin, ?_⟩)))
        rw [hc, e8, hc8]
        exact ⟨z.1, fun s => ⟨hi8, nm_e (z.2 s)⟩⟩
      refine tr_x_isPage1 z2 hgP (br_f (by decide) (nm_e ⟨hin, ?_⟩))
      rw [hc, x1, e8, hc8]
      by_cases s0 : zs b = 0
      · exact br_t s0 (Y0 (br_t s0 ⟨rfl, I⟩))
      · obtain ⟨_, _, _, _, p1, f1⟩ := x3 s0
        refine br_f s0 ⟨hin, ?_⟩
        rcases f1 g hgP with ⟨y1, y2, y3⟩ | ⟨y1, y2, y3, y4⟩ | ⟨K, y1, y2, y3, y4, y5, y6, y7, y8⟩
        · refine br_t ((tr_bz (by omega)).mpr y2) (Y0 (br_f s0 ?_))
          rw [y1]
          exact br_f (by decide) ⟨rfl, I⟩
        · refine br_f ((tr_bnz (by omega)).mpr y3) ⟨hin, br_t ((tr_bz (by omega)).mpr y4) (Y0 (br_f s0 ?_))⟩
          rw [y1]
          exact br_f (by decide) ⟨rfl, I⟩
        · refine br_f ((tr_bnz (by omega)).mpr y5) ⟨hin, br_f ((tr_bnz (by omega)).mpr y6) ⟨hi8, Y0 (br_f s0 ?_)⟩⟩
          rw [y1, y7]
          exact br_t (nI_pos' (by omega)) (tr_y_stamp (fun q x y => hwf q x (by omega)) (by omega) (by omega) ⟨rfl, I⟩)
theorem tr_copyValue (R : tr_Rel P C S M L A Q md ra rn cv sp pl al ob lk ls lp lc lv lb bs bS bE bB bN bP bD kS kV re yk yl yp yc yv zs zS zE zB zN zC) (v1 v2 v3 : Int32) : wpX_copyValue (fun r => wpY_copyValue (fun r' => r' = r ∧ i_Rel k (nI P, nI C, nI S, nI M, md, nI L, nI A, nI Q, ra, rn, cv, sp, pl, al, ob, lk, ls, lp, lc, lv, lb, bs, bS, bE, bB, bN, bP, bD, kS, kV) (nI P, nI C, nI S, nI M, md, nI L, nI A, nI Q, re, yk, yl, yp, yc, yv, zs, zS, zE, zB, zN, zC)) (nI P, nI C, nI S, nI M, md, nI L, nI A, nI Q, re, yk, yl, yp, yc, yv, zs, zS, zE, zB, zN, zC) v1 v2 v3) (nI P, nI C, nI S, nI M, md, nI L, nI A, nI Q, ra, rn, cv, sp, pl, al, ob, lk, ls, lp, lc, lv, lb, bs, bS, bE, bB, bN, bP, bD, kS, kV) v1 v2 v3 := by
  unfold wpX_copyValue
  have I : i_Rel k (nI P, nI C, nI S, nI M, md, nI L, nI A, nI Q, ra, rn, cv, sp, pl, al, ob, lk, ls, lp, lc, lv, lb, bs, bS, bE, bB, bN, bP, bD, kS, kV) (nI P, nI C, nI S, nI M, md, nI L, nI A, nI Q, re, yk, yl, yp, yc, yv, zs, zS, zE, zB, zN, zC) := tr_mk R
  obtain ⟨hz, hwf, hr, hg, ⟨eS, eN, eE, rk, hb⟩, hn, hm⟩ := R
  obtain ⟨z1, z2, z3, z4, z5, z6, z7, z8⟩ := hz
  have hL := (hr L (Nat.le_refl L)).1
  rcases pk_ix v1 (n := 6) (by omega) with hv | hv | ⟨b, hb6, rfl⟩
  · exact tr_x_isBackup0 (Or.inl hv) (br_t rfl (br_t hv ⟨rfl, I⟩))
  · exact tr_x_isBackup0 (Or.inr hv) (br_t rfl (br_c (fun _ => ⟨rfl, I⟩) (fun _ => br_t (by rw [← tr_c6]; exact hv) ⟨rfl, I⟩)))
  · obtain ⟨x1, x2, x3⟩ := hb b hb6
    have hin : vp_in (nI b) 6 := vp_in_nI hb6 (by decide)
    have hc : (nI b).toNatClampNeg = b := nI_clamp (by omega)
    have b0 : ¬ nI b < 0 := nI_pos (by omega)
    have b6 : ¬ 6 ≤ nI b := by rw [← tr_c6]; exact nI_ge hb6 (by decide)
    refine tr_x_isBackup1 hb6 (br_f (by decide) ?_)
    rcases tr_cellx v2 v3 z2 z4 with hv | ⟨g, c, hgP, hcC, rfl, rfl⟩
    · exact tr_x_isCell0 hv (br_t rfl (br_f b0 (br_f b6 (tr_y_cellOk0 hv (br_t rfl ⟨rfl, I⟩)))))
    · have e8 : nI b * 8 + nI g = nI (b * 8 + g) := by rw [← nI_add, ← pk_mul]; rfl
      have e9 : nI (b * 8 + g) * 4 + nI c = nI ((b * 8 + g) * 4 + c) := by rw [← nI_add ((b * 8 + g) * 4), ← pk_mul]; rfl
      have hi8 : vp_in (nI (b * 8 + g)) 48 := vp_in_nI (by omega) (by decide)
      have hc8 : (nI (b * 8 + g)).toNatClampNeg = b * 8 + g := nI_clamp (by omega)
      have hi9 : vp_in (nI ((b * 8 + g) * 4 + c)) 192 := vp_in_nI (by omega) (by decide)
      have hc9 : (nI ((b * 8 + g) * 4 + c)).toNatClampNeg = (b * 8 + g) * 4 + c := nI_clamp (by omega)
      have Y0 : ∀ {pp : Int32 → Prop}, ((zs b = 0 → pp 0) ∧ (¬ zs b = 0 → ((0 ≤ zC (b * 8 + g) → wpY_content (fun r => pp r) (nI P, nI C, nI S, nI M, md, nI L, nI A, nI Q, re, yk, yl, yp, yc, yv, zs, zS, zE, zB, zN, zC) (nI g) (nI c) (zC (b * 8 + g)) 0) ∧ (¬ 0 ≤ zC (b * 8 + g) → pp 0)))) → wpY_copyValue pp (nI P, nI C, nI S, nI M, md, nI L, nI A, nI Q, re, yk, yl, yp, yc, yv, zs, zS, zE, zB, zN, zC) (nI b) (nI g) (nI c) := fun z => by
        refine br_f b0 (br_f b6 (tr_y_cellOk1 z2 z4 hgP hcC (br_f (by decide) ⟨hin, ?_⟩)))
        rw [hc, e8, hc8]
        exact ⟨z.1, fun s => ⟨hi8, nm_e (z.2 s)⟩⟩
      refine tr_x_isCell1 z2 z4 hgP hcC (br_f (by decide) ⟨hin, ?_⟩)
      rw [hc, x1, e8, e9, hc9]
      by_cases s0 : zs b = 0
      · exact br_t s0 (Y0 (br_t s0 ⟨rfl, I⟩))
      · obtain ⟨_, _, _, _, p1, f1⟩ := x3 s0
        refine br_f s0 ⟨hin, ?_⟩
        rcases f1 g hgP with ⟨y1, y2, y3⟩ | ⟨y1, y2, y3, y4⟩ | ⟨K, y1, y2, y3, y4, y5, y6, y7, y8⟩
        · refine br_t ((tr_bz (by omega)).mpr y3) (Y0 (br_f s0 ?_))
          rw [y1]
          exact br_f (by decide) ⟨rfl, I⟩
        · refine br_t ((tr_bz (by omega)).mpr y4) (Y0 (br_f s0 ?_))
          rw [y1]
          exact br_f (by decide) ⟨rfl, I⟩
        · refine br_f ((tr_bnz (by omega)).mpr y6) ⟨hi9, Y0 (br_f s0 ?_)⟩
          rw [y1, y8 c hcC]
          exact br_t (nI_pos' (by omega)) (tr_y_full (by omega) ⟨rfl, I⟩)
end
end
section
/-! ship, prune, drop -/
section
variable {k P C S M L A Q : Nat} {md ra rn re : Int32} {cv sp pl al ob lk ls lp lc lv lb bs bS bE bB bN bP bD kS kV yk yl yp yc yv zs zS zE zB zN zC : Nat → Int32}
theorem tr_Rel_A {A' : Nat} (R : tr_Rel P C S M L A Q 0 ra rn cv sp pl al ob lk ls lp lc lv lb bs bS bE bB bN bP bD kS kV re yk yl yp yc yv zs zS zE zB zN zC) (h1 : A ≤ A') (h2 : A' ≤ L) : tr_Rel P C S M L A' Q 0 ra rn cv sp pl al ob lk ls lp lc lv lb bs bS bE bB bN bP bD kS kV re yk yl yp yc yv zs zS zE zB zN zC := by
  obtain ⟨hz, hwf, hr, hg, hb, hn, hm⟩ := R
  obtain ⟨l1, l2, l3, l4, l5, l6, l7, l8⟩ := tr_live0 hm
  exact ⟨hz, hwf, hr, hg, hb, hn, Or.inl ⟨rfl, l1, l2, l3, l4, l5, l6, by omega, h2⟩⟩
theorem tr_ship (R : tr_Rel P C S M L A Q md ra rn cv sp pl al ob lk ls lp lc lv lb bs bS bE bB bN bP bD kS kV re yk yl yp yc yv zs zS zE zB zN zC) (v1 : Int32) : wpX_ship (fun r u' => wpY_ship (fun r' v' => r' = r ∧ i_Rel k u' v') (nI P, nI C, nI S, nI M, md, nI L, nI A, nI Q, re, yk, yl, yp, yc, yv, zs, zS, zE, zB, zN, zC) v1) (nI P, nI C, nI S, nI M, md, nI L, nI A, nI Q, ra, rn, cv, sp, pl, al, ob, lk, ls, lp, lc, lv, lb, bs, bS, bE, bB, bN, bP, bD, kS, kV) v1 := by
  have I : i_Rel k (nI P, nI C, nI S, nI M, md, nI L, nI A, nI Q, ra, rn, cv, sp, pl, al, ob, lk, ls, lp, lc, lv, lb, bs, bS, bE, bB, bN, bP, bD, kS, kV) (nI P, nI C, nI S, nI M, md, nI L, nI A, nI Q, re, yk, yl, yp, yc, yv, zs, zS, zE, zB, zN, zC) := tr_mk R
  have R0 := R
  obtain ⟨hz, hwf, hr, hg, hb, hn, hm⟩ := R
  have hL := (hr L (Nat.le_refl L)).1
  by_cases m0 : md = 0
  · subst m0
    obtain ⟨l1, l2, l3, l4, l5, l6, l7, l8⟩ := tr_live0 hm
    have e : nI L - nI A = nI (L - A) := pk_sub l8
    refine br_t rfl (nm_r e ?_)
    have yes : (8 ≤ L - A ∨ ¬ v1 = 0) → ¬ L - A = 0 → wX_ship_39 (fun r u' => wpY_ship (fun r' v' => r' = r ∧ i_Rel k u' v') (nI P, nI C, nI S, nI M, 0, nI L, nI A, nI Q, re, yk, yl, yp, yc, yv, zs, zS, zE, zB, zN, zC) v1) (nI (L - A)) (nI P) (nI C) (nI S) (nI M) 0 (nI L) (nI A) (nI Q) ra rn cv sp pl al ob lk ls lp lc lv lb bs bS bE bB bN bP bD kS kV := fun hc hne => by
      have Y : ∀ {pp : Int32 → SY → Prop}, wY_ship_39 pp (nI (L - A)) (nI P) (nI C) (nI S) (nI M) 0 (nI L) (nI A) (nI Q) re yk yl yp yc yv zs zS zE zB zN zC → wpY_ship pp (nI P, nI C, nI S, nI M, 0, nI L, nI A, nI Q, re, yk, yl, yp, yc, yv, zs, zS, zE, zB, zN, zC) v1 := fun z => by
        refine br_t rfl (nm_r e (br_f (nI_ne0 (by omega) (by omega)) ?_))
        by_cases h8 : 8 ≤ L - A
        · exact br_t (by rw [← tr_c8]; exact nI_le h8 (by omega)) z
        · exact br_f (by rw [← tr_c8]; exact nI_ge (by omega) (by omega)) (br_f (hc.resolve_left h8) z)
      by_cases h8 : 8 ≤ L - A
      · refine br_t (by rw [← tr_c8]; exact nI_le h8 (by omega)) (nm_r (e' := nI (A + 8)) (by rw [← tr_c8]; exact nI_add A 8) (Y ?_))
        by_cases h9 : L - A = 8
        · rw [h9]
          exact br_t (by rw [← tr_c8]; exact nI_le (by omega) (by omega)) (nm_r (nI_add A 8) ⟨rfl, tr_mk (tr_Rel_A R0 (by omega) (by omega))⟩)
        · exact br_f (by rw [← tr_c8]; exact nI_ge (by omega) (by omega)) (nm_r (e' := nI (A + 8)) (by rw [← tr_c8]; exact nI_add A 8) ⟨rfl, tr_mk (tr_Rel_A R0 (by omega) (by omega))⟩)
      · exact br_f (by rw [← tr_c8]; exact nI_ge (by omega) (by omega)) (nm_r (nI_add A (L - A)) (Y (br_t (by rw [← tr_c8]; exact nI_le (by omega) (by omega)) (nm_r (nI_add A (L - A)) ⟨rfl, tr_mk (tr_Rel_A R0 (by omega) (by omega))⟩))))
    by_cases hz0 : L - A = 0
    · refine br_t (by rw [hz0]; rfl) (br_t rfl (nm_r e (br_t (by rw [hz0]; rfl) ⟨rfl, I⟩)))
    · refine br_f (nI_ne0 (by omega) (by omega)) ?_
      by_cases h8 : 8 ≤ L - A
      · exact br_t (by rw [← tr_c8]; exact nI_le h8 (by omega)) (yes (Or.inl h8) hz0)
      · refine br_f (by rw [← tr_c8]; exact nI_ge (by omega) (by omega)) ?_
        by_cases v0 : v1 = 0
        · exact br_t v0 (br_t rfl (nm_r e (br_f (nI_ne0 (by omega) (by omega)) (br_f (by rw [← tr_c8]; exact nI_ge (by omega) (by omega)) (br_t v0 ⟨rfl, I⟩)))))
        · exact br_f v0 (yes (Or.inr v0) hz0)
  · exact br_f m0 (br_f m0 ⟨rfl, I⟩)
end
section
variable {fp fc fs fm md la ar pr ra rn : Int32} {cv sp pl al ob lk ls lp lc lv lb bs bS bE bB bN bP bD kS kV : Nat → Int32} {post : Int32 → Prop} {U : Nat → Prop}
theorem tr_x_us {b : Nat} {x : Int32} (hb : b < 6) (hU : U b ↔ (bs b = 2 ∧ ¬ bN b ≤ x ∧ ¬ ar < bE b)) (H1 : U b → post 1) (H0 : ¬ U b → post 0) : wpX_usableBeyond post (fp, fc, fs, fm, md, la, ar, pr, ra, rn, cv, sp, pl, al, ob, lk, ls, lp, lc, lv, lb, bs, bS, bE, bB, bN, bP, bD, kS, kV) (nI b) x := by
  have hin : vp_in (nI b) 6 := vp_in_nI hb (by decide)
  refine ⟨hin, ?_⟩
  rw [nI_clamp (show b < 2 ^ 31 by omega)]
  exact br_c (fun a => ⟨hin, br_c (fun c => H0 (fun z => (hU.mp z).2.1 c)) (fun c => ⟨hin, br_c (fun d => H0 (fun z => (hU.mp z).2.2 d)) (fun d => H1 (hU.mpr ⟨a, c, d⟩))⟩)⟩) (fun a => H0 (fun z => a (hU.mp z).1))
theorem tr_x_bb2 {x : Int32} (hU : ∀ b, b < 6 → (U b ↔ (bs b = 2 ∧ ¬ bN b ≤ x ∧ ¬ ar < bE b))) (H1 : (∃ b, b < 6 ∧ U b) → post 1) (H0 : (¬ ∃ b, b < 6 ∧ U b) → post 0) : ∀ n i, i ≤ 6 → 6 - i < n → (∀ b, b < i → ¬ U b) → wX_backupBeyond_2 post x fp fc fs fm md la ar pr ra rn cv sp pl al ob lk ls lp lc lv lb bs bS bE bB bN bP bD kS kV n (nI i)
  | 0, _ => fun _ l => absurd l (by omega)
  | n + 1, i => fun li ln N => by
    by_cases ei : i = 6
    · subst ei
      exact br_t (by rw [← tr_c6]; exact nI_le (by omega) (by omega)) (H0 (fun ⟨b, hb, z⟩ => N b hb z))
    · refine br_f (by rw [← tr_c6]; exact nI_ge (by omega) (by omega)) (tr_x_us (by omega) (hU i (by omega)) (fun u => br_f (by decide) (H1 ⟨i, by omega, u⟩)) (fun u => br_t rfl (nm_r (nI_1 i) (tr_x_bb2 hU H1 H0 n (i + 1) (by omega) (by omega) (fun b hb => ?_)))))
      by_cases eb : b = i
      · subst eb; exact u
      · exact N b (by omega)
theorem tr_x_backupBeyond {x : Int32} (hU : ∀ b, b < 6 → (U b ↔ (bs b = 2 ∧ ¬ bN b ≤ x ∧ ¬ ar < bE b))) (H1 : (∃ b, b < 6 ∧ U b) → post 1) (H0 : (¬ ∃ b, b < 6 ∧ U b) → post 0) : wpX_backupBeyond post (fp, fc, fs, fm, md, la, ar, pr, ra, rn, cv, sp, pl, al, ob, lk, ls, lp, lc, lv, lb, bs, bS, bE, bB, bN, bP, bD, kS, kV) x := ⟨7, tr_x_bb2 hU H1 H0 7 0 (by omega) (by omega) (fun b hb => absurd hb (by omega))⟩
theorem tr_x_ou2 {j : Nat} (hj : j < 6) (hU : ∀ b, b < 6 → (U b ↔ (bs b = 2 ∧ ¬ bN b ≤ pr ∧ ¬ ar < bE b))) (H1 : (∃ b, b < 6 ∧ b ≠ j ∧ U b) → post 1) (H0 : (¬ ∃ b, b < 6 ∧ b ≠ j ∧ U b) → post 0) : ∀ n i, i ≤ 6 → 6 - i < n → (∀ b, b < i → b ≠ j → ¬ U b) → wX_otherUsable_2 post (nI j) fp fc fs fm md la ar pr ra rn cv sp pl al ob lk ls lp lc lv lb bs bS bE bB bN bP bD kS kV n (nI i)
  | 0, _ => fun _ l => absurd l (by omega)
  | n + 1, i => fun li ln N => by
    by_cases ei : i = 6
    · subst ei
      exact br_t (by rw [← tr_c6]; exact nI_le (by omega) (by omega)) (H0 (fun ⟨b, hb, ne, z⟩ => N b hb ne z))
    · refine br_f (by rw [← tr_c6]; exact nI_ge (by omega) (by omega)) ?_
      by_cases ej : i = j
      · refine br_t (by rw [ej]) (nm_r (nI_1 i) (tr_x_ou2 hj hU H1 H0 n (i + 1) (by omega) (by omega) (fun b hb ne => N b (by omega) ne)))
      · refine br_f (by rw [nI_eq (by omega) (by omega)]; exact ej) (tr_x_us (by omega) (hU i (by omega)) (fun u => br_f (by decide) (H1 ⟨i, by omega, ej, u⟩)) (fun u => br_t rfl (nm_r (nI_1 i) (tr_x_ou2 hj hU H1 H0 n (i + 1) (by omega) (by omega) (fun b hb ne => ?_)))))
        by_cases eb : b = i
        · subst eb; exact u
        · exact N b (by omega) ne
theorem tr_x_otherUsable {j : Nat} (hj : j < 6) (hU : ∀ b, b < 6 → (U b ↔ (bs b = 2 ∧ ¬ bN b ≤ pr ∧ ¬ ar < bE b))) (H1 : (∃ b, b < 6 ∧ b ≠ j ∧ U b) → post 1) (H0 : (¬ ∃ b, b < 6 ∧ b ≠ j ∧ U b) → post 0) : wpX_otherUsable post (fp, fc, fs, fm, md, la, ar, pr, ra, rn, cv, sp, pl, al, ob, lk, ls, lp, lc, lv, lb, bs, bS, bE, bB, bN, bP, bD, kS, kV) (nI j) := ⟨7, tr_x_ou2 hj hU H1 H0 7 0 (by omega) (by omega) (fun b hb => absurd hb (by omega))⟩
theorem tr_x_ib2 {x : Int32} (hU : ∀ b, b < 6 → (U b ↔ (¬ bs b = 0 ∧ bB b = x))) (H1 : (∃ b, b < 6 ∧ U b) → post 1) (H0 : (¬ ∃ b, b < 6 ∧ U b) → post 0) : ∀ n i, i ≤ 6 → 6 - i < n → (∀ b, b < i → ¬ U b) → wX_isBase_2 post x fp fc fs fm md la ar pr ra rn cv sp pl al ob lk ls lp lc lv lb bs bS bE bB bN bP bD kS kV n (nI i)
  | 0, _ => fun _ l => absurd l (by omega)
  | n + 1, i => fun li ln N => by
    by_cases ei : i = 6
    · subst ei
      exact br_t (by rw [← tr_c6]; exact nI_le (by omega) (by omega)) (H0 (fun ⟨b, hb, z⟩ => N b hb z))
    · have hin : vp_in (nI i) 6 := vp_in_nI (by omega) (by decide)
      have ih : ¬ U i → wX_isBase_2 post x fp fc fs fm md la ar pr ra rn cv sp pl al ob lk ls lp lc lv lb bs bS bE bB bN bP bD kS kV n (nI (i + 1)) := fun u => tr_x_ib2 hU H1 H0 n (i + 1) (by omega) (by omega) (fun b hb => by
        by_cases eb : b = i
        · subst eb; exact u
        · exact N b (by omega))
      have u := hU i (by omega)
      refine br_f (by rw [← tr_c6]; exact nI_ge (by omega) (by omega)) ⟨hin, ?_⟩
      rw [nI_clamp (show i < 2 ^ 31 by omega)]
      exact br_c (fun a => nm_r (nI_1 i) (ih (fun z => (u.mp z).1 a))) (fun a => ⟨hin, br_c (fun c => H1 ⟨i, by omega, u.mpr ⟨a, c⟩⟩) (fun c => nm_r (nI_1 i) (ih (fun z => c (u.mp z).2)))⟩)
theorem tr_x_isBase {x : Int32} (hU : ∀ b, b < 6 → (U b ↔ (¬ bs b = 0 ∧ bB b = x))) (H1 : (∃ b, b < 6 ∧ U b) → post 1) (H0 : (¬ ∃ b, b < 6 ∧ U b) → post 0) : wpX_isBase post (fp, fc, fs, fm, md, la, ar, pr, ra, rn, cv, sp, pl, al, ob, lk, ls, lp, lc, lv, lb, bs, bS, bE, bB, bN, bP, bD, kS, kV) x := ⟨7, tr_x_ib2 hU H1 H0 7 0 (by omega) (by omega) (fun b hb => absurd hb (by omega))⟩
/-- an open transaction needs a record at or before p -/
def tr_nS (h : Nat → tr_R) (L S p : Nat) : Prop := ∃ s, s < S ∧ tr_op h (nI s) L ≠ 0 ∧ tr_op h (nI s) L ≤ p
theorem tr_x_nn2 {h : Nat → tr_R} {S L p : Nat} {N : Prop} (hS : S ≤ 4) (hL : L ≤ 256) (hp : p < 2 ^ 31) (ho : tr_Ob S h L ob) (tail : ¬ tr_nS h L S p → ((rn < 0 → post 0) ∧ (¬ rn < 0 → (vp_in rn 6 ∧ ((nI p < bN rn.toNatClampNeg → post 0) ∧ (¬ nI p < bN rn.toNatClampNeg → post 1)))))) (H1 : tr_nS h L S p → post 1) : ∀ n i, i ≤ S → S - i < n → (∀ s, s < i → tr_op h (nI s) L ≠ 0 → p < tr_op h (nI s) L) → wX_neededNow_2 post (nI p) fp fc (nI S) fm md la ar pr ra rn cv sp pl al ob lk ls lp lc lv lb bs bS bE bB bN bP bD kS kV n (nI i)
  | 0, _ => fun _ l => absurd l (by omega)
  | n + 1, i => fun li ln X => by
    by_cases ei : i = S
    · subst ei
      refine br_t (nI_le (by omega) (by omega)) (tail (fun ⟨s, hs, o, z⟩ => ?_))
      have := X s hs o
      omega
    · have lo := tr_op_le (h := h) (s := nI i) L
      have hin : vp_in (nI i) 4 := vp_in_nI (by omega) (by decide)
      refine br_f (nI_ge (by omega) (by omega)) ⟨hin, ?_⟩
      rw [nI_clamp (show i < 2 ^ 31 by omega), ho i (by omega)]
      have ih : (tr_op h (nI i) L ≠ 0 → p < tr_op h (nI i) L) → wX_neededNow_2 post (nI p) fp fc (nI S) fm md la ar pr ra rn cv sp pl al ob lk ls lp lc lv lb bs bS bE bB bN bP bD kS kV n (nI (i + 1)) := fun u => tr_x_nn2 (N := N) hS hL hp ho tail H1 n (i + 1) (by omega) (by omega) (fun s hs => by
        by_cases es : s = i
        · subst es; exact u
        · exact X s (by omega))
      by_cases o : tr_op h (nI i) L = 0
      · exact br_t (by rw [o]; rfl) (nm_r (nI_1 i) (ih (fun z => absurd o z)))
      · refine br_f (nI_ne0 (by omega) (by omega)) ⟨hin, ?_⟩
        by_cases l : p < tr_op h (nI i) L
        · exact br_t (nI_lt l (by omega)) (nm_r (nI_1 i) (ih (fun _ => l)))
        · exact br_f (nI_nlt (by omega) hp) (H1 ⟨i, by omega, o, by omega⟩)
theorem tr_x_neededNow {h : Nat → tr_R} {S L p : Nat} (hS : S ≤ 4) (hL : L ≤ 256) (hp : p < 2 ^ 31) (ho : tr_Ob S h L ob) (tail : ¬ tr_nS h L S p → ((rn < 0 → post 0) ∧ (¬ rn < 0 → (vp_in rn 6 ∧ ((nI p < bN rn.toNatClampNeg → post 0) ∧ (¬ nI p < bN rn.toNatClampNeg → post 1)))))) (H1 : tr_nS h L S p → post 1) : wpX_neededNow post (fp, fc, nI S, fm, md, la, ar, pr, ra, rn, cv, sp, pl, al, ob, lk, ls, lp, lc, lv, lb, bs, bS, bE, bB, bN, bP, bD, kS, kV) (nI p) := ⟨S + 1, tr_x_nn2 (N := True) hS hL hp ho tail H1 (S + 1) 0 (by omega) (by omega) (fun s hs => absurd hs (by omega))⟩
end
section
variable {gp gc gs gm me le ae pe re : Int32} {yk yl yp yc yv zs zS zE zB zN zC : Nat → Int32} {post : Int32 → SY → Prop} {U : Nat → Prop}
/-- prune's walk over the backups -/
theorem tr_y_p102 {J : Int32 → Int32 → Prop} {x1 x2 : Int32} {b : Nat} (hb : b < 6) (hU : U b ↔ (zs b = 2 ∧ ¬ zN b ≤ x1 ∧ ¬ ae < zE b)) (H1 : U b → J 1 (nI (b + 1))) (H0 : ¬ U b → J x2 (nI (b + 1))) : wY_prune_102 post J x1 x2 (nI b) gp gc gs gm me le ae pe re yk yl yp yc yv zs zS zE zB zN zC := by
  have hin : vp_in (nI b) 6 := vp_in_nI hb (by decide)
  unfold wY_prune_102
  rw [nI_clamp (show b < 2 ^ 31 by omega)]
  exact ⟨hin, br_c (fun a => ⟨hin, br_c (fun c => nm_r (nI_1 b) (H0 (fun z => (hU.mp z).2.1 c))) (fun c => ⟨hin, br_c (fun d => nm_r (nI_1 b) (H0 (fun z => (hU.mp z).2.2 d))) (fun d => nm_r (nI_1 b) (H1 (hU.mpr ⟨a, c, d⟩)))⟩)⟩) (fun a => nm_r (nI_1 b) (H0 (fun z => a (hU.mp z).1)))⟩
theorem tr_y_p73 {x1 : Int32} (hU : ∀ b, b < 6 → (U b ↔ (zs b = 2 ∧ ¬ zN b ≤ x1 ∧ ¬ ae < zE b))) (HN : (∃ b, b < 6 ∧ zs b = 1 ∧ ¬ x1 < zN b) → post (-10) (gp, gc, gs, gm, me, le, ae, pe, re, yk, yl, yp, yc, yv, zs, zS, zE, zB, zN, zC)) (H0 : (¬ ∃ b, b < 6 ∧ zs b = 1 ∧ ¬ x1 < zN b) → (¬ ∃ b, b < 6 ∧ U b) → post (-17) (gp, gc, gs, gm, me, le, ae, pe, re, yk, yl, yp, yc, yv, zs, zS, zE, zB, zN, zC)) (H1 : (¬ ∃ b, b < 6 ∧ zs b = 1 ∧ ¬ x1 < zN b) → (∃ b, b < 6 ∧ U b) → post 0 (gp, gc, gs, gm, me, le, ae, x1, re, yk, yl, yp, yc, yv, zs, zS, zE, zB, zN, zC)) :
    ∀ n i x2, i ≤ 6 → 6 - i < n → (∀ b, b < i → ¬ (zs b = 1 ∧ ¬ x1 < zN b)) → ((x2 = 1 ∧ ∃ b, b < i ∧ U b) ∨ (x2 = 0 ∧ ¬ ∃ b, b < i ∧ U b)) → wY_prune_73 post x1 gp gc gs gm me le ae pe re yk yl yp yc yv zs zS zE zB zN zC n x2 (nI i)
  | 0, _, _ => fun _ l => absurd l (by omega)
  | n + 1, i, x2 => fun li ln N F => by
    by_cases ei : i = 6
    · subst ei
      have nn : ¬ ∃ b, b < 6 ∧ zs b = 1 ∧ ¬ x1 < zN b := fun ⟨b, hb, z⟩ => N b hb z
      refine br_t (by rw [← tr_c6]; exact nI_le (by omega) (by omega)) ?_
      rcases F with ⟨rfl, u⟩ | ⟨rfl, u⟩
      · exact br_f (by decide) (H1 nn u)
      · exact br_t rfl (H0 nn u)
    · have hin : vp_in (nI i) 6 := vp_in_nI (by omega) (by decide)
      have step : ¬ (zs i = 1 ∧ ¬ x1 < zN i) → wY_prune_102 post (wY_prune_73 post x1 gp gc gs gm me le ae pe re yk yl yp yc yv zs zS zE zB zN zC n) x1 x2 (nI i) gp gc gs gm me le ae pe re yk yl yp yc yv zs zS zE zB zN zC := fun c => by
        have N' : ∀ b, b < i + 1 → ¬ (zs b = 1 ∧ ¬ x1 < zN b) := fun b hb => by
          by_cases eb : b = i
          · subst eb; exact c
          · exact N b (by omega)
        refine tr_y_p102 (by omega) (hU i (by omega)) (fun u => tr_y_p73 hU HN H0 H1 n (i + 1) 1 (by omega) (by omega) N' (Or.inl ⟨rfl, i, by omega, u⟩)) (fun u => tr_y_p73 hU HN H0 H1 n (i + 1) x2 (by omega) (by omega) N' ?_)
        rcases F with ⟨e, b, hb, z⟩ | ⟨e, z⟩
        · exact Or.inl ⟨e, b, Nat.lt_succ_of_lt hb, z⟩
        · refine Or.inr ⟨e, fun ⟨b, hb, y⟩ => ?_⟩
          by_cases eb : b = i
          · subst eb; exact u y
          · exact z ⟨b, Nat.lt_of_le_of_ne (Nat.le_of_lt_succ hb) eb, y⟩
      have i6 : i < 6 := by omega
      refine br_f (by rw [← tr_c6]; exact nI_ge (by omega) (by omega)) ⟨hin, ?_⟩
      rw [nI_clamp (show i < 2 ^ 31 by omega)]
      exact br_c (fun a => ⟨hin, br_c (fun c => step (fun z => z.2 c)) (fun c => HN ⟨i, i6, a, c⟩)⟩) (fun a => step (fun z => a z.1))
theorem tr_y_p33 {S L p : Nat} (hS : S ≤ 4) (hL : L ≤ 256) (hp : p < 2 ^ 31) (HN : tr_nS (tr_h yk yl yp yc yv) L S p → post (-10) (gp, gc, nI S, gm, me, nI L, ae, pe, re, yk, yl, yp, yc, yv, zs, zS, zE, zB, zN, zC)) (H0 : ¬ tr_nS (tr_h yk yl yp yc yv) L S p → ∃ n, wY_prune_73 post (nI p) gp gc (nI S) gm me (nI L) ae pe re yk yl yp yc yv zs zS zE zB zN zC n 0 0) : ∀ n i, i ≤ S → S - i < n → (∀ s, s < i → tr_op (tr_h yk yl yp yc yv) (nI s) L ≠ 0 → p < tr_op (tr_h yk yl yp yc yv) (nI s) L) → wY_prune_33 post (nI p) gp gc (nI S) gm me (nI L) ae pe re yk yl yp yc yv zs zS zE zB zN zC n (nI i)
  | 0, _ => fun _ l => absurd l (by omega)
  | n + 1, i => fun li ln X => by
    by_cases ei : i = S
    · subst ei
      refine br_t (nI_le (by omega) (by omega)) (H0 (fun ⟨s, hs, o, z⟩ => ?_))
      have := X s hs o
      omega
    · have lo := tr_op_le (h := (tr_h yk yl yp yc yv)) (s := nI i) L
      have ih : (tr_op (tr_h yk yl yp yc yv) (nI i) L ≠ 0 → p < tr_op (tr_h yk yl yp yc yv) (nI i) L) → wY_prune_33 post (nI p) gp gc (nI S) gm me (nI L) ae pe re yk yl yp yc yv zs zS zE zB zN zC n (nI (i + 1)) := fun u => tr_y_p33 hS hL hp HN H0 n (i + 1) (by omega) (by omega) (fun s hs => by
        by_cases es : s = i
        · subst es; exact u
        · exact X s (by omega))
      refine br_f (nI_ge (by omega) (by omega)) (tr_y_openAt hL ?_)
      by_cases o : tr_op (tr_h yk yl yp yc yv) (nI i) L = 0
      · exact br_t (by rw [o]; decide) (nm_r (nI_1 i) (ih (fun z => absurd o z)))
      · refine br_f (nI_nle (by omega) (by omega)) ?_
        by_cases l : p < tr_op (tr_h yk yl yp yc yv) (nI i) L
        · exact br_t (nI_lt l (by omega)) (nm_r (nI_1 i) (ih (fun _ => l)))
        · exact br_f (nI_nlt (by omega) hp) (HN ⟨i, by omega, o, by omega⟩)
end
section
variable {k P C S M L A Q : Nat} {md ra rn re : Int32} {cv sp pl al ob lk ls lp lc lv lb bs bS bE bB bN bP bD kS kV yk yl yp yc yv zs zS zE zB zN zC : Nat → Int32}
theorem tr_Rel_Q {Q' : Nat} (R : tr_Rel P C S M L A Q 0 ra rn cv sp pl al ob lk ls lp lc lv lb bs bS bE bB bN bP bD kS kV re yk yl yp yc yv zs zS zE zB zN zC) (h1 : Q ≤ Q') (h2 : Q' ≤ A) (nn : ¬ tr_nS (tr_h yk yl yp yc yv) L S Q') : tr_Rel P C S M L A Q' 0 ra rn cv sp pl al ob lk ls lp lc lv lb bs bS bE bB bN bP bD kS kV re yk yl yp yc yv zs zS zE zB zN zC := by
  obtain ⟨hz, hwf, hr, hg, hb, hn, hm⟩ := R
  obtain ⟨l1, l2, l3, l4, l5, l6, l7, l8⟩ := tr_live0 hm
  refine ⟨hz, hwf, fun p hp => ?_, fun q a b => hg q (by omega) b, hb, hn, Or.inl ⟨rfl, l1, l2, l3, l4, l5, fun s hs o => ?_, h2, l8⟩⟩
  · obtain ⟨a, b⟩ := hr p hp
    exact ⟨a, by omega⟩
  · exact Nat.lt_of_not_le (fun z => nn ⟨s, hs, o, z⟩)
theorem tr_prune (R : tr_Rel P C S M L A Q md ra rn cv sp pl al ob lk ls lp lc lv lb bs bS bE bB bN bP bD kS kV re yk yl yp yc yv zs zS zE zB zN zC) (v1 : Int32) : wpX_prune (fun r u' => wpY_prune (fun r' v' => r' = r ∧ i_Rel k u' v') (nI P, nI C, nI S, nI M, md, nI L, nI A, nI Q, re, yk, yl, yp, yc, yv, zs, zS, zE, zB, zN, zC) v1) (nI P, nI C, nI S, nI M, md, nI L, nI A, nI Q, ra, rn, cv, sp, pl, al, ob, lk, ls, lp, lc, lv, lb, bs, bS, bE, bB, bN, bP, bD, kS, kV) v1 := by
  have I : i_Rel k (nI P, nI C, nI S, nI M, md, nI L, nI A, nI Q, ra, rn, cv, sp, pl, al, ob, lk, ls, lp, lc, lv, lb, bs, bS, bE, bB, bN, bP, bD, kS, kV) (nI P, nI C, nI S, nI M, md, nI L, nI A, nI Q, re, yk, yl, yp, yc, yv, zs, zS, zE, zB, zN, zC) := tr_mk R
  have R0 := R
  obtain ⟨hz, hwf, hr, hg, ⟨eS, eN, eE, rk, hb⟩, hn, hm⟩ := R
  obtain ⟨z1, z2, z3, z4, z5, z6, z7, z8⟩ := hz
  have hL := (hr L (Nat.le_refl L)).1
  by_cases m0 : md = 0
  · subst m0
    obtain ⟨l1, l2, l3, l4, l5, l6, l7, l8⟩ := tr_live0 hm
    by_cases a : nI Q < v1
    · by_cases b : v1 ≤ nI A
      · have v0 : ¬ v1 < 0 := fun z => Int32.lt_irrefl (Int32.lt_of_lt_of_le (Int32.lt_trans a z) (nI_pos' (show Q < 2 ^ 31 by omega)))
        obtain ⟨p, hp, rfl⟩ := nI_of v0
        have a' : Q < p := (nI_ltI (by omega) hp).mp a
        have b' : p ≤ A := (nI_leI hp (by omega)).mp b
        refine br_t rfl (br_t a (br_t b ?_))
        have Y0 : ∀ {pp : Int32 → SY → Prop}, (∃ n, wY_prune_33 pp (nI p) (nI P) (nI C) (nI S) (nI M) 0 (nI L) (nI A) (nI Q) re yk yl yp yc yv zs zS zE zB zN zC n 0) → wpY_prune pp (nI P, nI C, nI S, nI M, 0, nI L, nI A, nI Q, re, yk, yl, yp, yc, yv, zs, zS, zE, zB, zN, zC) (nI p) := fun z => br_t rfl (br_t a (br_t b z))
        by_cases ns : tr_nS (tr_h yk yl yp yc yv) L S p
        · refine tr_x_neededNow (L := L) z6 (by omega) hp l3 (fun z => absurd ns z) (fun _ => br_f (by decide) (Y0 ⟨S + 1, tr_y_p33 z6 (by omega) hp (fun _ => ⟨rfl, I⟩) (fun z => absurd ns z) (S + 1) 0 (by omega) (by omega) (fun s hs => absurd hs (by omega))⟩))
        · have Y1 : ∀ {pp : Int32 → SY → Prop}, (∃ n, wY_prune_73 pp (nI p) (nI P) (nI C) (nI S) (nI M) 0 (nI L) (nI A) (nI Q) re yk yl yp yc yv zs zS zE zB zN zC n 0 0) → wpY_prune pp (nI P, nI C, nI S, nI M, 0, nI L, nI A, nI Q, re, yk, yl, yp, yc, yv, zs, zS, zE, zB, zN, zC) (nI p) := fun z => Y0 ⟨S + 1, tr_y_p33 z6 (by omega) hp (fun y => absurd y ns) (fun _ => z) (S + 1) 0 (by omega) (by omega) (fun s hs => absurd hs (by omega))⟩
          have U6 : ∀ b, b < 6 → ((zs b = 2 ∧ ¬ zN b ≤ nI p ∧ ¬ nI A < zE b) ↔ (bs b = 2 ∧ ¬ bN b ≤ nI p ∧ ¬ nI A < bE b)) := fun b hb6 => by
            obtain ⟨x1, x2, x3⟩ := hb b hb6
            rw [x1]
            by_cases e : zs b = 2
            · obtain ⟨_, ⟨b1, b2, _⟩, ⟨c1, _⟩, _⟩ := x3 (by rw [e]; decide)
              rw [b1, b2, c1]
            · exact ⟨fun z => absurd z.1 e, fun z => absurd z.1 e⟩
          have cont : (¬ ∃ b, b < 6 ∧ zs b = 1 ∧ ¬ nI p < zN b) → wpX_backupBeyond (fun r_36 => ((r_36 = 0 → wpY_prune (fun r' v' => r' = -17 ∧ i_Rel k (nI P, nI C, nI S, nI M, 0, nI L, nI A, nI Q, ra, rn, cv, sp, pl, al, ob, lk, ls, lp, lc, lv, lb, bs, bS, bE, bB, bN, bP, bD, kS, kV) v') (nI P, nI C, nI S, nI M, 0, nI L, nI A, nI Q, re, yk, yl, yp, yc, yv, zs, zS, zE, zB, zN, zC) (nI p)) ∧ (¬ r_36 = 0 → wpY_prune (fun r' v' => r' = 0 ∧ i_Rel k (nI P, nI C, nI S, nI M, 0, nI L, nI A, nI p, ra, rn, cv, sp, pl, al, ob, lk, ls, lp, lc, lv, lb, bs, bS, bE, bB, bN, bP, bD, kS, kV) v') (nI P, nI C, nI S, nI M, 0, nI L, nI A, nI Q, re, yk, yl, yp, yc, yv, zs, zS, zE, zB, zN, zC) (nI p)))) (nI P, nI C, nI S, nI M, 0, nI L, nI A, nI Q, ra, rn, cv, sp, pl, al, ob, lk, ls, lp, lc, lv, lb, bs, bS, bE, bB, bN, bP, bD, kS, kV) (nI p) := fun nr => by
            refine tr_x_backupBeyond U6 (fun u => br_f (by decide) (Y1 ⟨7, ?_⟩)) (fun u => br_t rfl (Y1 ⟨7, ?_⟩))
            · exact tr_y_p73 (fun b _ => Iff.rfl) (fun z => absurd z nr) (fun _ z => absurd u z) (fun _ _ => ⟨rfl, tr_mk (tr_Rel_Q R0 (by omega) b' ns)⟩) 7 0 0 (by omega) (by omega) (fun b hb => absurd hb (by omega)) (Or.inr ⟨rfl, fun ⟨b, hb, _⟩ => absurd hb (by omega)⟩)
            · exact tr_y_p73 (fun b _ => Iff.rfl) (fun z => absurd z nr) (fun _ _ => ⟨rfl, I⟩) (fun _ z => absurd z u) 7 0 0 (by omega) (by omega) (fun b hb => absurd hb (by omega)) (Or.inr ⟨rfl, fun ⟨b, hb, _⟩ => absurd hb (by omega)⟩)
          refine tr_x_neededNow (L := L) z6 (by omega) hp l3 (fun _ => ?_) (fun z => absurd z ns)
          rcases hn with ⟨rfl, nr⟩ | ⟨r, hr6, rfl, zr, ur⟩
          · exact br_t (by decide) (br_t rfl (cont (fun ⟨b, hb, z, _⟩ => nr b hb z)))
          · obtain ⟨x1, x2, x3⟩ := hb r hr6
            obtain ⟨_, ⟨b1, b2, _⟩, _⟩ := x3 (by rw [zr]; decide)
            refine br_f (nI_pos (by omega)) ⟨vp_in_nI hr6 (by decide), ?_⟩
            rw [nI_clamp (show r < 2 ^ 31 by omega), b1, ← b2]
            by_cases q : nI p < zN r
            · refine br_t q (br_t rfl (cont (fun ⟨b, hb, z, y⟩ => y (by rw [ur b hb z]; exact q))))
            · exact br_f q (br_f (by decide) (Y1 ⟨7, tr_y_p73 (U := fun b => zs b = 2 ∧ ¬ zN b ≤ nI p ∧ ¬ nI A < zE b) (fun b _ => Iff.rfl) (fun _ => ⟨rfl, I⟩) (fun z _ => absurd ⟨r, hr6, zr, q⟩ z) (fun z _ => absurd ⟨r, hr6, zr, q⟩ z) 7 0 0 (by omega) (by omega) (fun b hb => absurd hb (by omega)) (Or.inr ⟨rfl, fun ⟨b, hb, _⟩ => absurd hb (by omega)⟩)⟩))
      · exact br_t rfl (br_t a (br_f b (br_t rfl (br_t a (br_f b ⟨rfl, I⟩)))))
    · exact br_t rfl (br_f a (br_t rfl (br_f a ⟨rfl, I⟩)))
  · exact br_f m0 (br_f m0 ⟨rfl, I⟩)
end
end
section
/-! drop; fewer backups -/
/-- some backups are emptied, the others stand (none of them on an emptied one) -/
theorem tr_Bk_sub {P C S L L' : Nat} {h : Nat → tr_R} {bs bS bE bB bN bP bD kS kV bs' bS' bE' bB' bN' bP' bD' zs' zs zS zE zB zN zC : Nat → Int32} {eS eN eE rk : Nat → Nat}
    (X : tr_Bk P C S h L bs bS bE bB bN bP bD kS kV zs zS zE zB zN zC eS eN eE rk)
    (D : ∀ b, b < 6 → (zs' b = 0 ∧ bs' b = 0) ∨ (zs' b = zs b ∧ bs' b = bs b ∧ bS' b = bS b ∧ bE' b = bE b ∧ bB' b = bB b ∧ bN' b = bN b ∧ bP' b = bP b ∧ bD' b = bD b))
    (K : ∀ b, b < 6 → ¬ zs' b = 0 → ∀ B, B < 6 → zB b = nI B → zs B = 2 → eE B ≤ eS b → ¬ zs' B = 0)
    (l : ∀ b, b < 6 → ¬ zs' b = 0 → L ≤ L' ∨ (zs b = 2 ∧ eE b ≤ L')) : tr_Bk P C S h L' bs' bS' bE' bB' bN' bP' bD' kS kV zs' zS zE zB zN zC eS eN eE rk := by
  intro b hb
  obtain ⟨x1, x2, x3⟩ := X b hb
  rcases D b hb with ⟨d1, d2⟩ | ⟨d1, d2, d3, d4, d5, d6, d7, d8⟩
  · exact ⟨by rw [d1, d2], Or.inl d1, fun z => absurd d1 z⟩
  · refine ⟨by rw [d1, d2, x1], by rw [d1]; exact x2, fun z => ?_⟩
    have z0 : ¬ zs b = 0 := by rw [← d1]; exact z
    obtain ⟨⟨a1, a2, a3⟩, ⟨b1, b2, b3, b4, b5⟩, ⟨c1, c2, c3⟩, ⟨q1, q2⟩, e1, f1⟩ := x3 z0
    have lim := l b hb z
    refine ⟨⟨by rw [d3]; exact a1, a2, ?_⟩, ⟨by rw [d6]; exact b1, b2, b3, b4, b5⟩, ⟨by rw [d4]; exact c1, fun y => ?_, fun y => c3 (by rw [← d1]; exact y)⟩, ⟨by rw [d5]; exact q1, ?_⟩, fun i h1 h2 => by rw [d7, d8]; exact e1 i h1 h2, fun g hg => ?_⟩
    · rcases lim with m | ⟨m, n⟩
      · omega
      · have := c2 m; omega
    · obtain ⟨y1, y2, y3⟩ := c2 (by rw [← d1]; exact y)
      refine ⟨y1, y2, ?_⟩
      rcases lim with m | ⟨m, n⟩ <;> omega
    · rcases q2 with q | ⟨B, p1, p2, p3, p4, p5, p6⟩
      · exact Or.inl q
      · have kB := K b hb z B p1 p2 p3 p4
        refine Or.inr ⟨B, p1, p2, ?_, p4, p5, p6⟩
        rcases D B p1 with ⟨w, _⟩ | ⟨w, _⟩
        · exact absurd w kB
        · rw [w]; exact p3
    · unfold tr_Pg
      rw [d7, d8, d1]
      rcases f1 g hg with y | y | ⟨k, y1, y2, y3, y4, y5⟩
      · exact Or.inl y
      · exact Or.inr (Or.inl y)
      · refine Or.inr (Or.inr ⟨k, y1, y2, ?_, y4, y5⟩)
        rcases lim with m | ⟨m, n⟩
        · omega
        · have := y4 m; omega
section
variable {fp fc fs fm md la ar pr ra rn : Int32} {cv sp pl al ob lk ls lp lc lv lb bs bS bE bB bN bP bD kS kV : Nat → Int32} {pv : SX → Prop}
theorem tr_x_e13 {b : Nat} (hb : b < 6) (H : pv (fp, fc, fs, fm, md, la, ar, pr, ra, rn, cv, sp, pl, al, ob, lk, ls, lp, lc, lv, lb, upd bs b 0, upd bS b 0, upd bE b (-1), upd bB b (-1), upd bN b 0, upd bP b 0, upd bD b 0, kS, kV)) : wX_emptyBackup_13 pv (nI b) fp fc fs fm md la ar pr ra rn cv sp pl al ob lk ls lp lc lv lb bs bS bE bB bN bP bD kS kV := by
  have hin : vp_in (nI b) 6 := vp_in_nI hb (by decide)
  unfold wX_emptyBackup_13
  rw [nI_clamp (show b < 2 ^ 31 by omega)]
  exact ⟨hin, nm_e ⟨hin, nm_e ⟨hin, nm_e ⟨hin, nm_e ⟨hin, nm_e ⟨hin, nm_e ⟨hin, nm_e H⟩⟩⟩⟩⟩⟩⟩
theorem tr_x_empty1 {b : Nat} (hb : b < 6) (e : rn = nI b) (H : pv (fp, fc, fs, fm, md, la, ar, pr, ra, -1, cv, sp, pl, al, ob, lk, ls, lp, lc, lv, lb, upd bs b 0, upd bS b 0, upd bE b (-1), upd bB b (-1), upd bN b 0, upd bP b 0, upd bD b 0, kS, kV)) : wpX_emptyBackup pv (fp, fc, fs, fm, md, la, ar, pr, ra, rn, cv, sp, pl, al, ob, lk, ls, lp, lc, lv, lb, bs, bS, bE, bB, bN, bP, bD, kS, kV) (nI b) := br_t e (tr_x_e13 hb H)
theorem tr_x_empty0 {b : Nat} (hb : b < 6) (e : ¬ rn = nI b) (H : pv (fp, fc, fs, fm, md, la, ar, pr, ra, rn, cv, sp, pl, al, ob, lk, ls, lp, lc, lv, lb, upd bs b 0, upd bS b 0, upd bE b (-1), upd bB b (-1), upd bN b 0, upd bP b 0, upd bD b 0, kS, kV)) : wpX_emptyBackup pv (fp, fc, fs, fm, md, la, ar, pr, ra, rn, cv, sp, pl, al, ob, lk, ls, lp, lc, lv, lb, bs, bS, bE, bB, bN, bP, bD, kS, kV) (nI b) := br_f e (tr_x_e13 hb H)
end
/-- one backup emptied -/
theorem tr_Bk_e {P C S L b : Nat} {h : Nat → tr_R} {bs bS bE bB bN bP bD kS kV zs zS zE zB zN zC : Nat → Int32} {eS eN eE rk : Nat → Nat} (X : tr_Bk P C S h L bs bS bE bB bN bP bD kS kV zs zS zE zB zN zC eS eN eE rk) (nb : ∀ x, x < 6 → ¬ zs x = 0 → x ≠ b → zs b = 2 → ¬ zB x = nI b) : tr_Bk P C S h L (upd bs b 0) (upd bS b 0) (upd bE b (-1)) (upd bB b (-1)) (upd bN b 0) (upd bP b 0) (upd bD b 0) kS kV (upd zs b 0) zS zE zB zN zC eS eN eE rk := by
  refine tr_Bk_sub X (fun x hx => ?_) (fun x hx z B hB e2 e3 e4 w => ?_) (fun x hx _ => Or.inl (Nat.le_refl L))
  · by_cases e : x = b
    · subst e; exact Or.inl ⟨pk_us, pk_us⟩
    · exact Or.inr ⟨pk_un e, pk_un e, pk_un e, pk_un e, pk_un e, pk_un e, pk_un e, pk_un e⟩
  · by_cases e : x = b
    · subst e; rw [pk_us] at z; exact z rfl
    · rw [pk_un e] at z
      by_cases e5 : B = b
      · subst e5; exact nb x hx z e e3 e2
      · rw [pk_un e5, e3] at w; exact absurd w (by decide)
theorem tr_Rn_e {b : Nat} {rn : Int32} {zs : Nat → Int32} (hb : b < 6) (H : tr_Rn rn zs) (z1 : zs b = 1) : rn = nI b ∧ tr_Rn (-1) (upd zs b 0) := by
  rcases H with ⟨_, n⟩ | ⟨r, hr, e, z, u⟩
  · exact absurd z1 (n b hb)
  · have := u b hb z1
    subst this
    refine ⟨e, Or.inl ⟨rfl, fun x hx w => ?_⟩⟩
    by_cases ex : x = b
    · subst ex; rw [pk_us] at w; exact absurd w (by decide)
    · rw [pk_un ex] at w; exact ex (u x hx w)
theorem tr_Rn_o {b : Nat} {rn : Int32} {zs : Nat → Int32} (hb : b < 6) (H : tr_Rn rn zs) (z1 : ¬ zs b = 1) : ¬ rn = nI b ∧ tr_Rn rn (upd zs b 0) := by
  rcases H with ⟨e, n⟩ | ⟨r, hr, e, z, u⟩
  · refine ⟨by rw [e]; exact tr_m1ne (by omega), Or.inl ⟨e, fun x hx w => ?_⟩⟩
    by_cases ex : x = b
    · subst ex; rw [pk_us] at w; exact absurd w (by decide)
    · rw [pk_un ex] at w; exact n x hx w
  · have ne : r ≠ b := fun w => by subst w; exact z1 z
    refine ⟨by rw [e, nI_eq (by omega) (by omega)]; exact ne, Or.inr ⟨r, hr, e, by rw [pk_un ne]; exact z, fun x hx w => ?_⟩⟩
    by_cases ex : x = b
    · subst ex; rw [pk_us] at w; exact absurd w (by decide)
    · rw [pk_un ex] at w; exact u x hx w
section
variable {gp gc gs gm me le ae pe re : Int32} {yk yl yp yc yv zs zS zE zB zN zC : Nat → Int32} {post : Int32 → SY → Prop} {U : Nat → Prop}
theorem tr_y_d76 {J : Int32 → Int32 → Prop} {x2 : Int32} {j b : Nat} (hj : j < 6) (hb : b < 6) (hU : U b ↔ (zs b = 2 ∧ ¬ zN b ≤ pe ∧ ¬ ae < zE b)) (H1 : b ≠ j → U b → J 1 (nI (b + 1))) (H0 : ¬ (b ≠ j ∧ U b) → J x2 (nI (b + 1))) : wY_drop_76 post J (nI j) x2 (nI b) gp gc gs gm me le ae pe re yk yl yp yc yv zs zS zE zB zN zC := by
  have hin : vp_in (nI b) 6 := vp_in_nI hb (by decide)
  have ej : nI b = nI j ↔ b = j := nI_eq (by omega) (by omega)
  unfold wY_drop_76
  rw [nI_clamp (show b < 2 ^ 31 by omega)]
  exact br_c (fun a => nm_r (nI_1 b) (H0 (fun z => z.1 (ej.mp a)))) (fun a => ⟨hin, br_c (fun e => ⟨hin, br_c (fun c => nm_r (nI_1 b) (H0 (fun z => (hU.mp z.2).2.1 c))) (fun c => ⟨hin, br_c (fun d => nm_r (nI_1 b) (H0 (fun z => (hU.mp z.2).2.2 d))) (fun d => nm_r (nI_1 b) (H1 (fun z => a (ej.mpr z)) (hU.mpr ⟨e, c, d⟩)))⟩)⟩) (fun e => nm_r (nI_1 b) (H0 (fun z => e (hU.mp z.2).1)))⟩)
/-- drop's walk over the backups, for a COMPLETE one -/
theorem tr_y_d38 {j : Nat} (hj : j < 6) (z2 : zs j = 2) (hU : ∀ b, b < 6 → (U b ↔ (zs b = 2 ∧ ¬ zN b ≤ pe ∧ ¬ ae < zE b))) (HB : (∃ b, b < 6 ∧ ¬ zs b = 0 ∧ zB b = nI j) → post (-10) (gp, gc, gs, gm, me, le, ae, pe, re, yk, yl, yp, yc, yv, zs, zS, zE, zB, zN, zC)) (H : (¬ ∃ b, b < 6 ∧ ¬ zs b = 0 ∧ zB b = nI j) → ∀ x2, ((x2 = 1 ∧ ∃ b, b < 6 ∧ b ≠ j ∧ U b) ∨ (x2 = 0 ∧ ¬ ∃ b, b < 6 ∧ b ≠ j ∧ U b)) → wY_drop_125 post (nI j) x2 gp gc gs gm me le ae pe re yk yl yp yc yv zs zS zE zB zN zC) :
    ∀ n i x2, i ≤ 6 → 6 - i < n → (∀ b, b < i → ¬ (¬ zs b = 0 ∧ zB b = nI j)) → ((x2 = 1 ∧ ∃ b, b < i ∧ b ≠ j ∧ U b) ∨ (x2 = 0 ∧ ¬ ∃ b, b < i ∧ b ≠ j ∧ U b)) → wY_drop_38 post (nI j) gp gc gs gm me le ae pe re yk yl yp yc yv zs zS zE zB zN zC n x2 (nI i)
  | 0, _, _ => fun _ l => absurd l (by omega)
  | n + 1, i, x2 => fun li ln N F => by
    by_cases ei : i = 6
    · subst ei
      exact br_t (by rw [← tr_c6]; exact nI_le (by omega) (by omega)) (H (fun ⟨b, hb, z⟩ => N b hb z) x2 F)
    · have i6 : i < 6 := by clear N F H HB hU; omega
      have i2 : 6 - (i + 1) < n := by clear N F H HB hU; omega
      have hin : vp_in (nI i) 6 := vp_in_nI i6 (by decide)
      have hinj : vp_in (nI j) 6 := vp_in_nI hj (by decide)
      have step : ¬ (¬ zs i = 0 ∧ zB i = nI j) → wY_drop_76 post (wY_drop_38 post (nI j) gp gc gs gm me le ae pe re yk yl yp yc yv zs zS zE zB zN zC n) (nI j) x2 (nI i) gp gc gs gm me le ae pe re yk yl yp yc yv zs zS zE zB zN zC := fun c => by
        have N' : ∀ b, b < i + 1 → ¬ (¬ zs b = 0 ∧ zB b = nI j) := fun b hb => by
          by_cases eb : b = i
          · subst eb; exact c
          · exact N b (by omega)
        refine tr_y_d76 hj i6 (hU i i6) (fun ne u => tr_y_d38 hj z2 hU HB H n (i + 1) 1 i6 i2 N' (Or.inl ⟨rfl, i, Nat.lt_succ_self i, ne, u⟩)) (fun u => tr_y_d38 hj z2 hU HB H n (i + 1) x2 i6 i2 N' ?_)
        rcases F with ⟨e, b, hb, z⟩ | ⟨e, z⟩
        · exact Or.inl ⟨e, b, Nat.lt_succ_of_lt hb, z⟩
        · refine Or.inr ⟨e, fun ⟨b, hb, y⟩ => ?_⟩
          by_cases eb : b = i
          · subst eb; exact u y
          · exact z ⟨b, Nat.lt_of_le_of_ne (Nat.le_of_lt_succ hb) eb, y⟩
      refine br_f (by rw [← tr_c6]; exact nI_ge (by omega) (by omega)) ⟨hinj, ?_⟩
      rw [nI_clamp (show i < 2 ^ 31 by omega), nI_clamp (show j < 2 ^ 31 by omega)]
      exact br_t z2 ⟨hin, br_c (fun a => step (fun z => z.1 a)) (fun a => ⟨hin, br_c (fun c => HB ⟨i, i6, a, c⟩) (fun c => step (fun z => c z.2))⟩)⟩
end
section
variable {k P C S M L A Q : Nat} {md ra rn re : Int32} {cv sp pl al ob lk ls lp lc lv lb bs bS bE bB bN bP bD kS kV yk yl yp yc yv zs zS zE zB zN zC : Nat → Int32}
theorem tr_Rel_e {b : Nat} {rn' : Int32} (R : tr_Rel P C S M L A Q md ra rn cv sp pl al ob lk ls lp lc lv lb bs bS bE bB bN bP bD kS kV re yk yl yp yc yv zs zS zE zB zN zC) (nb : ∀ x, x < 6 → ¬ zs x = 0 → x ≠ b → zs b = 2 → ¬ zB x = nI b) (hn' : tr_Rn rn' (upd zs b 0)) (m0 : md = 0) : tr_Rel P C S M L A Q md ra rn' cv sp pl al ob lk ls lp lc lv lb (upd bs b 0) (upd bS b 0) (upd bE b (-1)) (upd bB b (-1)) (upd bN b 0) (upd bP b 0) (upd bD b 0) kS kV re yk yl yp yc yv (upd zs b 0) zS zE zB zN zC := by
  subst m0
  obtain ⟨hz, hwf, hr, hg, ⟨eS, eN, eE, rk, hb⟩, hn, hm⟩ := R
  exact ⟨hz, hwf, hr, hg, ⟨eS, eN, eE, rk, tr_Bk_e hb nb⟩, hn', Or.inl ⟨rfl, tr_live0 hm⟩⟩
theorem tr_drop (R : tr_Rel P C S M L A Q md ra rn cv sp pl al ob lk ls lp lc lv lb bs bS bE bB bN bP bD kS kV re yk yl yp yc yv zs zS zE zB zN zC) (v1 : Int32) : wpX_drop (fun r u' => wpY_drop (fun r' v' => r' = r ∧ i_Rel k u' v') (nI P, nI C, nI S, nI M, md, nI L, nI A, nI Q, re, yk, yl, yp, yc, yv, zs, zS, zE, zB, zN, zC) v1) (nI P, nI C, nI S, nI M, md, nI L, nI A, nI Q, ra, rn, cv, sp, pl, al, ob, lk, ls, lp, lc, lv, lb, bs, bS, bE, bB, bN, bP, bD, kS, kV) v1 := by
  have I : i_Rel k (nI P, nI C, nI S, nI M, md, nI L, nI A, nI Q, ra, rn, cv, sp, pl, al, ob, lk, ls, lp, lc, lv, lb, bs, bS, bE, bB, bN, bP, bD, kS, kV) (nI P, nI C, nI S, nI M, md, nI L, nI A, nI Q, re, yk, yl, yp, yc, yv, zs, zS, zE, zB, zN, zC) := tr_mk R
  have R0 := R
  obtain ⟨hz, hwf, hr, hg, ⟨eS, eN, eE, rk, hb⟩, hn, hm⟩ := R
  have hL := (hr L (Nat.le_refl L)).1
  by_cases m0 : md = 0
  · subst m0
    have LV := tr_live0 hm
    obtain ⟨l1, l2, l3, l4, l5, l6, l7, l8⟩ := LV
    rcases pk_ix v1 (n := 6) (by omega) with hv | hv | ⟨b, hb6, rfl⟩
    · exact br_t rfl (tr_x_isBackup0 (Or.inl hv) (br_t rfl (br_t rfl (br_t hv ⟨rfl, I⟩))))
    · exact br_t rfl (tr_x_isBackup0 (Or.inr hv) (br_t rfl (br_t rfl (br_c (fun _ => ⟨rfl, I⟩) (fun _ => br_f (Int32.not_lt.mpr (by rw [← tr_c6]; exact hv)) ⟨rfl, I⟩)))))
    · obtain ⟨x1, x2, x3⟩ := hb b hb6
      have hin : vp_in (nI b) 6 := vp_in_nI hb6 (by decide)
      have hc : (nI b).toNatClampNeg = b := nI_clamp (by omega)
      have b6 : nI b < 6 := by rw [← tr_c6]; exact nI_lt hb6 (by decide)
      have Y0 : ∀ {pp : Int32 → SY → Prop}, ((zs b = 0 → pp (-12) (nI P, nI C, nI S, nI M, 0, nI L, nI A, nI Q, re, yk, yl, yp, yc, yv, zs, zS, zE, zB, zN, zC)) ∧ (¬ zs b = 0 → ∃ n, wY_drop_38 pp (nI b) (nI P) (nI C) (nI S) (nI M) 0 (nI L) (nI A) (nI Q) re yk yl yp yc yv zs zS zE zB zN zC n 0 0)) → wpY_drop pp (nI P, nI C, nI S, nI M, 0, nI L, nI A, nI Q, re, yk, yl, yp, yc, yv, zs, zS, zE, zB, zN, zC) (nI b) := fun z => by
        refine br_t rfl (br_f (nI_pos (by omega)) (br_t b6 ⟨hin, ?_⟩))
        rw [hc]
        exact z
      refine br_t rfl (tr_x_isBackup1 hb6 (br_f (by decide) ⟨hin, ?_⟩))
      rw [hc, x1]
      by_cases s0 : zs b = 0
      · exact br_t s0 (Y0 (br_t s0 ⟨rfl, I⟩))
      · refine br_f s0 ⟨hin, ?_⟩
        have U6 : ∀ b, b < 6 → ((zs b = 2 ∧ ¬ zN b ≤ nI Q ∧ ¬ nI A < zE b) ↔ (bs b = 2 ∧ ¬ bN b ≤ nI Q ∧ ¬ nI A < bE b)) := fun b hb6 => by
          obtain ⟨x1, x2, x3⟩ := hb b hb6
          rw [x1]
          by_cases e : zs b = 2
          · obtain ⟨_, ⟨b1, b2, _⟩, ⟨c1, _⟩, _⟩ := x3 (by rw [e]; decide)
            rw [b1, b2, c1]
          · exact ⟨fun z => absurd z.1 e, fun z => absurd z.1 e⟩
        have B6 : ∀ x, x < 6 → ((¬ zs x = 0 ∧ zB x = nI b) ↔ (¬ bs x = 0 ∧ bB x = nI b)) := fun x hx6 => by
          obtain ⟨x1, x2, x3⟩ := hb x hx6
          rw [x1]
          by_cases e : zs x = 0
          · exact ⟨fun z => absurd e z.1, fun z => absurd e z.1⟩
          · obtain ⟨_, _, _, ⟨d1, _⟩, _⟩ := x3 e
            rw [d1]
        by_cases s2 : zs b = 2
        · refine br_t s2 ?_
          have Yd : ∀ {pp : Int32 → SY → Prop}, ((∃ x, x < 6 ∧ ¬ zs x = 0 ∧ zB x = nI b) → pp (-10) (nI P, nI C, nI S, nI M, 0, nI L, nI A, nI Q, re, yk, yl, yp, yc, yv, zs, zS, zE, zB, zN, zC)) → ((¬ ∃ x, x < 6 ∧ ¬ zs x = 0 ∧ zB x = nI b) → ∀ x2, ((x2 = 1 ∧ ∃ x, x < 6 ∧ x ≠ b ∧ (zs x = 2 ∧ ¬ zN x ≤ nI Q ∧ ¬ nI A < zE x)) ∨ (x2 = 0 ∧ ¬ ∃ x, x < 6 ∧ x ≠ b ∧ (zs x = 2 ∧ ¬ zN x ≤ nI Q ∧ ¬ nI A < zE x))) → wY_drop_125 pp (nI b) x2 (nI P) (nI C) (nI S) (nI M) 0 (nI L) (nI A) (nI Q) re yk yl yp yc yv zs zS zE zB zN zC) → wpY_drop pp (nI P, nI C, nI S, nI M, 0, nI L, nI A, nI Q, re, yk, yl, yp, yc, yv, zs, zS, zE, zB, zN, zC) (nI b) := fun HB H => Y0 (br_f s0 ⟨7, tr_y_d38 (U := fun x => zs x = 2 ∧ ¬ zN x ≤ nI Q ∧ ¬ nI A < zE x) hb6 s2 (fun _ _ => Iff.rfl) HB H 7 0 0 (by omega) (by omega) (fun b hb => absurd hb (by omega)) (Or.inr ⟨rfl, fun ⟨b, hb, _⟩ => absurd hb (by omega)⟩)⟩)
          refine tr_x_isBase B6 (fun u => br_f (by decide) (Yd (fun _ => ⟨rfl, I⟩) (fun z => absurd u z))) (fun u => br_t rfl ?_)
          have Rn := tr_Rn_o hb6 hn (by rw [s2]; decide)
          have nb : ∀ x, x < 6 → ¬ zs x = 0 → x ≠ b → zs b = 2 → ¬ zB x = nI b := fun x hx z _ _ w => u ⟨x, hx, z, w⟩
          have RE := tr_mk (k := k) (tr_Rel_e R0 nb Rn.2 rfl)
          by_cases q0 : Q = 0
          · have q1 : nI Q ≤ 0 := by rw [q0]; decide
            refine br_t q1 (tr_x_empty0 hb6 Rn.1 (Yd (fun z => absurd z u) (fun _ y2 _ => ?_)))
            refine ⟨hin, ?_⟩
            rw [hc]
            exact br_t s2 (br_t q1 ⟨hin, nm_e ⟨rfl, RE⟩⟩)
          · have q1 : ¬ nI Q ≤ 0 := nI_nle (by omega) (by omega)
            refine br_f q1 (tr_x_otherUsable hb6 U6 (fun w => br_f (by decide) (tr_x_empty0 hb6 Rn.1 (Yd (fun z => absurd z u) (fun _ y2 y3 => ?_)))) (fun w => br_t rfl (Yd (fun z => absurd z u) (fun _ y2 y3 => ?_))))
            · refine ⟨hin, ?_⟩
              rw [hc]
              rcases y3 with ⟨rfl, _⟩ | ⟨_, z⟩
              · exact br_t s2 (br_f q1 (br_f (by decide) ⟨hin, nm_e ⟨rfl, RE⟩⟩))
              · exact absurd w z
            · refine ⟨hin, ?_⟩
              rw [hc]
              rcases y3 with ⟨_, z⟩ | ⟨rfl, _⟩
              · exact absurd z w
              · exact br_t s2 (br_f q1 (br_t rfl ⟨rfl, I⟩))
        · have s1 : zs b = 1 := (x2.resolve_left s0).resolve_right s2
          have Rn := tr_Rn_e hb6 hn s1
          have RE := tr_mk (k := k) (tr_Rel_e R0 (fun x _ _ _ w => absurd w s2) Rn.2 rfl)
          refine br_f s2 (tr_x_empty1 hb6 Rn.1 (Y0 (br_f s0 ⟨1, ?_⟩)))
          refine br_f (by decide) ⟨hin, ?_⟩
          rw [hc]
          refine br_f s2 ⟨hin, ?_⟩
          rw [hc]
          exact br_f s2 ⟨hin, nm_e ⟨rfl, RE⟩⟩
  · exact br_f m0 (br_f m0 ⟨rfl, I⟩)
end
end
section
/-! copyStep -/
section
variable {fp fc fs fm md la ar pr ra rn : Int32} {cv sp pl al ob lk ls lp lc lv lb bs bS bE bB bN bP bD kS kV : Nat → Int32} {post : Int32 → Prop} {pv : SX → Prop}
theorem tr_x_fp2 {P g : Nat} {m : Int32} (hP : P ≤ 8) (hg : g < P) (b : bt m g = true) (N : ∀ x, x < g → bt m x = false) (H : post (nI g)) : ∀ n i, i ≤ g → g - i < n → wX_firstPage_2 post m (nI P) fc fs fm md la ar pr ra rn cv sp pl al ob lk ls lp lc lv lb bs bS bE bB bN bP bD kS kV n (nI i)
  | 0, _ => fun _ l => absurd l (by omega)
  | n + 1, i => fun li ln => by
    refine br_f (nI_ge (by omega) (by omega)) ?_
    by_cases e : i = g
    · subst e
      exact br_f ((tr_bnz (by omega)).mpr b) H
    · exact br_t ((tr_bz (by omega)).mpr (N i (by omega))) (nm_r (nI_1 i) (tr_x_fp2 hP hg b N H n (i + 1) (by omega) (by omega)))
theorem tr_x_firstPage {P g : Nat} {m : Int32} (hP : P ≤ 8) (hg : g < P) (b : bt m g = true) (N : ∀ x, x < g → bt m x = false) (H : post (nI g)) : wpX_firstPage post (nI P, fc, fs, fm, md, la, ar, pr, ra, rn, cv, sp, pl, al, ob, lk, ls, lp, lc, lv, lb, bs, bS, bE, bB, bN, bP, bD, kS, kV) m := ⟨g + 1, tr_x_fp2 hP hg b N H (g + 1) 0 (by omega) (by omega)⟩
theorem tr_x_cp22 {C b g : Nat} (hC : C ≤ 4) (hb : b < 6) (hg : g < 8) (H : ∀ kV' : Nat → Int32, (∀ c, c < C → kV' ((b * 8 + g) * 4 + c) = cv (g * 4 + c)) → (∀ i, (∀ c, c < C → i ≠ (b * 8 + g) * 4 + c) → kV' i = kV i) → pv (fp, nI C, fs, fm, md, la, ar, pr, ra, rn, cv, sp, pl, al, ob, lk, ls, lp, lc, lv, lb, bs, bS, bE, bB, bN, bP, upd bD b (bD b ||| ((1 : Int32) <<< (nI g &&& 31))), kS, kV')) : ∀ (n i : Nat) (kV' : Nat → Int32), i ≤ C → C - i < n → (∀ c, c < i → kV' ((b * 8 + g) * 4 + c) = cv (g * 4 + c)) → (∀ j, (∀ c, c < i → j ≠ (b * 8 + g) * 4 + c) → kV' j = kV j) → wX_copyPage_22 pv (nI b) (nI g) (nI (b * 8 + g)) fp (nI C) fs fm md la ar pr ra rn n (nI i) cv sp pl al ob lk ls lp lc lv lb bs bS bE bB bN bP bD kS kV'
  | 0, _, _ => fun _ l => absurd l (by omega)
  | n + 1, i, kV' => fun li ln A B => by
    have hin : vp_in (nI b) 6 := vp_in_nI hb (by decide)
    by_cases ei : i = C
    · subst ei
      refine br_t (nI_le (by omega) (by omega)) ⟨hin, hin, ?_⟩
      rw [nI_clamp (show b < 2 ^ 31 by omega)]
      exact nm_e (H kV' A B)
    · have e1 : nI g * 4 + nI i = nI (g * 4 + i) := by rw [← nI_add, ← pk_mul]; rfl
      have e2 : nI (b * 8 + g) * 4 + nI i = nI ((b * 8 + g) * 4 + i) := by rw [← nI_add ((b * 8 + g) * 4), ← pk_mul]; rfl
      refine br_f (nI_ge (by omega) (by omega)) ?_
      rw [e1, e2, nI_clamp (show g * 4 + i < 2 ^ 31 by omega), nI_clamp (show (b * 8 + g) * 4 + i < 2 ^ 31 by omega)]
      refine ⟨vp_in_nI (by omega) (by decide), vp_in_nI (by omega) (by decide), nm_e (nm_r (nI_1 i) (tr_x_cp22 hC hb hg H n (i + 1) _ (by omega) (by omega) (fun c hc => ?_) (fun j hj => ?_)))⟩
      · by_cases e : c = i
        · subst e; rw [pk_us]
        · rw [pk_un (by omega)]; exact A c (by omega)
      · rw [pk_un (hj i (by omega))]
        exact B j (fun c hc => hj c (by omega))
theorem tr_x_copyPage {C b g : Nat} (hC : C ≤ 4) (hb : b < 6) (hg : g < 8) (H : ∀ kV' : Nat → Int32, (∀ c, c < C → kV' ((b * 8 + g) * 4 + c) = cv (g * 4 + c)) → (∀ i, (∀ c, c < C → i ≠ (b * 8 + g) * 4 + c) → kV' i = kV i) → pv (fp, nI C, fs, fm, md, la, ar, pr, ra, rn, cv, sp, pl, al, ob, lk, ls, lp, lc, lv, lb, bs, bS, bE, bB, bN, bP, upd bD b (bD b ||| ((1 : Int32) <<< (nI g &&& 31))), upd kS (b * 8 + g) (sp g), kV')) : wpX_copyPage pv (fp, nI C, fs, fm, md, la, ar, pr, ra, rn, cv, sp, pl, al, ob, lk, ls, lp, lc, lv, lb, bs, bS, bE, bB, bN, bP, bD, kS, kV) (nI b) (nI g) := by
  refine nm_r (e' := nI (b * 8 + g)) (by rw [← nI_add, ← pk_mul]; rfl) ⟨vp_in_nI hg (by decide), vp_in_nI (by omega) (by decide), ?_⟩
  rw [nI_clamp (show b * 8 + g < 2 ^ 31 by omega), nI_clamp (show g < 2 ^ 31 by omega)]
  exact nm_e ⟨C + 1, tr_x_cp22 (kS := upd kS (b * 8 + g) (sp g)) hC hb hg H (C + 1) 0 kV (by omega) (by omega) (fun c hc => absurd hc (by omega)) (fun j _ => rfl)⟩
end
theorem tr_ct_0 {f : Nat → Prop} : ∀ n, tr_ct f n = 0 ↔ ∀ x, x < n → ¬ f x
  | 0 => ⟨fun _ x hx => absurd hx (by omega), fun _ => rfl⟩
  | n + 1 => by
    have ih := tr_ct_0 (f := f) n
    have e : tr_ct f (n + 1) = tr_ct f n + tr_if (f n) 1 0 := rfl
    constructor
    · intro z x hx
      by_cases fn : f n
      · rw [tr_ift fn] at e; omega
      · by_cases ex : x = n
        · subst ex; exact fn
        · exact ih.mp (by omega) x (by omega)
    · intro z
      rw [e, tr_iff (z n (by omega)), ih.mpr (fun x hx => z x (by omega))]
section
variable {gp gc gs gm me le ae pe re : Int32} {yk yl yp yc yv zs zS zE zB zN zC : Nat → Int32} {post : Int32 → SY → Prop}
theorem tr_y_cs2 {P L b g : Nat} (hP : P ≤ 8) (hb : b < 6) (hg : g < P) (H1 : tr_ct (fun x => g < x ∧ zC (b * 8 + x) = -2) P = 0 → post (nI g) (nI P, gc, gs, gm, me, nI L, ae, pe, re, yk, yl, yp, yc, yv, upd zs b 2, zS, upd zE b (nI L), zB, zN, upd zC (b * 8 + g) (nI L))) (H0 : ¬ tr_ct (fun x => g < x ∧ zC (b * 8 + x) = -2) P = 0 → post (nI g) (nI P, gc, gs, gm, me, nI L, ae, pe, re, yk, yl, yp, yc, yv, zs, zS, zE, zB, zN, upd zC (b * 8 + g) (nI L))) : ∀ n i, g < i → i ≤ P → P - i < n → wY_copyStep_28 post (nI b) (nI P) gc gs gm me (nI L) ae pe re n (nI g) (nI (tr_ct (fun x => g < x ∧ zC (b * 8 + x) = -2) i)) (nI i) yk yl yp yc yv zs zS zE zB zN (upd zC (b * 8 + g) (nI L))
  | 0, _ => fun _ _ l => absurd l (by omega)
  | n + 1, i => fun lg li ln => by
    have hin : vp_in (nI b) 6 := vp_in_nI hb (by decide)
    have hc : (nI b).toNatClampNeg = b := nI_clamp (by omega)
    have ctl := tr_ct_le (f := fun x => g < x ∧ zC (b * 8 + x) = -2) i
    by_cases ei : i = P
    · subst ei
      refine br_t (nI_le (by omega) (by omega)) ?_
      by_cases z : tr_ct (fun x => g < x ∧ zC (b * 8 + x) = -2) i = 0
      · have z' : nI (tr_ct (fun x => g < x ∧ zC (b * 8 + x) = -2) i) = 0 := by rw [z]; rfl
        refine br_t z' ⟨hin, ?_⟩
        rw [hc]
        refine nm_e (br_t z' ⟨hin, ?_⟩)
        rw [hc]
        exact nm_e (H1 z)
      · have z' : ¬ nI (tr_ct (fun x => g < x ∧ zC (b * 8 + x) = -2) i) = 0 := nI_ne0 (by omega) (by omega)
        exact br_f z' (br_f z' (H0 z))
    · have ih := tr_y_cs2 hP hb hg H1 H0 n (i + 1) (by omega) (by omega) (by omega)
      have e2 : nI b * 8 + nI i = nI (b * 8 + i) := by rw [← nI_add, ← pk_mul]; rfl
      refine br_f (nI_ge (by omega) (by omega)) ?_
      rw [e2, nI_clamp (show b * 8 + i < 2 ^ 31 by omega), pk_un (show b * 8 + i ≠ b * 8 + g by omega)]
      refine ⟨vp_in_nI (by omega) (by decide), ?_⟩
      by_cases q : zC (b * 8 + i) = -2
      · rw [show tr_ct (fun x => g < x ∧ zC (b * 8 + x) = -2) (i + 1) = tr_ct (fun x => g < x ∧ zC (b * 8 + x) = -2) i + 1 from (by show _ + tr_if _ _ _ = _; rw [tr_ift ⟨lg, q⟩])] at ih
        exact br_t q (br_f (nI_pos (by omega)) (nm_r (nI_1 _) (nm_r (nI_1 i) ih)))
      · rw [show tr_ct (fun x => g < x ∧ zC (b * 8 + x) = -2) (i + 1) = tr_ct (fun x => g < x ∧ zC (b * 8 + x) = -2) i from (by show _ + tr_if _ _ _ = _; rw [tr_iff (fun z => q z.2), Nat.add_zero])] at ih
        exact br_f q (nm_r (nI_1 i) ih)
theorem tr_y_cs1 {P L b g : Nat} (hP : P ≤ 8) (hb : b < 6) (hg : g < P) (q : zC (b * 8 + g) = -2) (N : ∀ x, x < g → ¬ zC (b * 8 + x) = -2) (H1 : tr_ct (fun x => g < x ∧ zC (b * 8 + x) = -2) P = 0 → post (nI g) (nI P, gc, gs, gm, me, nI L, ae, pe, re, yk, yl, yp, yc, yv, upd zs b 2, zS, upd zE b (nI L), zB, zN, upd zC (b * 8 + g) (nI L))) (H0 : ¬ tr_ct (fun x => g < x ∧ zC (b * 8 + x) = -2) P = 0 → post (nI g) (nI P, gc, gs, gm, me, nI L, ae, pe, re, yk, yl, yp, yc, yv, zs, zS, zE, zB, zN, upd zC (b * 8 + g) (nI L))) : ∀ n i, i ≤ g → P - i < n → wY_copyStep_28 post (nI b) (nI P) gc gs gm me (nI L) ae pe re n (-1) 0 (nI i) yk yl yp yc yv zs zS zE zB zN zC
  | 0, _ => fun _ l => absurd l (by omega)
  | n + 1, i => fun li ln => by
    have e2 : nI b * 8 + nI i = nI (b * 8 + i) := by rw [← nI_add, ← pk_mul]; rfl
    have hi8 : vp_in (nI (b * 8 + i)) 48 := vp_in_nI (by omega) (by decide)
    refine br_f (nI_ge (by omega) (by omega)) ?_
    rw [e2, nI_clamp (show b * 8 + i < 2 ^ 31 by omega)]
    refine ⟨hi8, ?_⟩
    by_cases e : i = g
    · subst e
      have z0 : tr_ct (fun x => i < x ∧ zC (b * 8 + x) = -2) (i + 1) = 0 := (tr_ct_0 (i + 1)).mpr (fun x hx z => absurd z.1 (by omega))
      have t := tr_y_cs2 hP hb hg H1 H0 n (i + 1) (by omega) (by omega) (by omega)
      rw [z0] at t
      exact br_t q (br_t (by decide) ⟨hi8, nm_e (nm_r (nI_1 i) t)⟩)
    · exact br_f (N i (by omega)) (nm_r (nI_1 i) (tr_y_cs1 hP hb hg q N H1 H0 n (i + 1) (by omega) (by omega)))
end
/-- page g of backup b copied now -/
theorem tr_Bk_copy {P C S L b g : Nat} {h : Nat → tr_R} {bs bS bE bB bN bP bD kS kV bs' bE' kV' zs' zE' zs zS zE zB zN zC : Nat → Int32} {sg : Int32} {eS eN eE rk : Nat → Nat}
    (X : tr_Bk P C S h L bs bS bE bB bN bP bD kS kV zs zS zE zB zN zC eS eN eE rk) (hP : P ≤ 8) (hC : C ≤ 4) (hL : L ≤ 256) (hb : b < 6) (hg : g < P) (s1 : zs b = 1) (q : zC (b * 8 + g) = -2) (sg1 : sg = nI (tr_st h (nI g) L))
    (v1 : ∀ c, c < C → kV' ((b * 8 + g) * 4 + c) = tr_fu h (nI g) (nI c) L) (v2 : ∀ i, (∀ c, c < C → i ≠ (b * 8 + g) * 4 + c) → kV' i = kV i)
    (o : ∀ x, x < 6 → x ≠ b → zs' x = zs x ∧ bs' x = bs x ∧ bE' x = bE x ∧ zE' x = zE x)
    (n : (zs' b = 2 ∧ bs' b = 2 ∧ bE' b = nI L ∧ zE' b = nI L ∧ ∀ x, x < P → x ≠ g → ¬ zC (b * 8 + x) = -2) ∨ (zs' b = 1 ∧ bs' b = 1 ∧ bE' b = bE b ∧ zE' b = zE b ∧ ∃ x, x < P ∧ x ≠ g ∧ zC (b * 8 + x) = -2)) :
    tr_Bk P C S h L bs' bS bE' bB bN bP (upd bD b (bD b ||| ((1 : Int32) <<< (nI g &&& 31)))) (upd kS (b * 8 + g) sg) kV' zs' zS zE' zB zN (upd zC (b * 8 + g) (nI L)) eS eN (fun x => if x = b then L else eE x) rk := by
  intro x hx
  obtain ⟨x1, x2, x3⟩ := X x hx
  by_cases e : x = b
  · subst e
    obtain ⟨⟨a1, a2, a3⟩, ⟨b1, b2, b3, b4, b5⟩, ⟨c1, c2, c3⟩, ⟨q1, q2⟩, p1, f1⟩ := x3 (by rw [s1]; decide)
    have nm1 : ¬ (nI L : Int32) = -1 := fun z => tr_m1ne (show L < 2 ^ 31 by omega) z.symm
    have zCm : ∀ y, y < P → (upd zC (x * 8 + g) (nI L) (x * 8 + y) = -1 ↔ zC (x * 8 + y) = -1) := fun y hy => by
      by_cases ey : y = g
      · subst ey; rw [pk_us, q]
        exact ⟨fun z => absurd z nm1, fun z => absurd z (by decide)⟩
      · rw [pk_un (by omega)]
    have bDx : ∀ i, i < 32 → (bt (upd bD x (bD x ||| ((1 : Int32) <<< (nI g &&& 31))) x) i = (bt (bD x) i || decide (i = g))) := fun i hi => by
      rw [pk_us, b_or, tr_bsh (by omega) hi]
    refine ⟨?_, ?_, fun _ => ⟨⟨a1, a2, a3⟩, ⟨b1, b2, b3, b4, b5⟩, ⟨?_, fun z2 => ?_, fun z1 => ?_⟩, ⟨q1, ?_⟩, fun i hi hPi => ⟨(p1 i hi hPi).1, ?_⟩, fun y hy => ?_⟩⟩
    · rcases n with n | n <;> rw [n.1, n.2.1]
    · rcases n with n | n
      · exact Or.inr (Or.inr n.1)
      · exact Or.inr (Or.inl n.1)
    · rcases n with n | n
      · rw [n.2.2.1, n.2.2.2.1]
      · rw [n.2.2.1, n.2.2.2.1, c1]
    · rcases n with n | n
      · rw [n.2.2.2.1]
        simp only [if_pos]
        exact ⟨trivial, a3, Nat.le_refl L⟩
      · rw [n.1] at z2; exact absurd z2 (by decide)
    · rcases n with n | n
      · rw [n.1] at z1; exact absurd z1 (by decide)
      · obtain ⟨_, _, _, n4, y, hy, ne, w⟩ := n
        rw [n4]
        refine ⟨(c3 s1).1, y, hy, ?_⟩
        rw [pk_un (by omega)]; exact w
    · rcases q2 with ⟨w1, w2⟩ | ⟨B, w1, w2, w3, w4, w5, w6⟩
      · exact Or.inl ⟨w1, fun y hy z => w2 y hy ((zCm y hy).mp z)⟩
      · have ne : B ≠ x := fun z => by subst z; rw [s1] at w3; exact absurd w3 (by decide)
        refine Or.inr ⟨B, w1, w2, by rw [(o B w1 ne).1]; exact w3, ?_, w5, fun y hy z => w6 y hy ((zCm y hy).mp z)⟩
        simp only [if_neg ne]
        exact w4
    · rw [bDx i hi, (p1 i hi hPi).2, decide_eq_false (by omega)]; rfl
    · unfold tr_Pg
      rw [bDx y (by omega)]
      by_cases ey : y = g
      · subst ey
        refine Or.inr (Or.inr ⟨L, pk_us, a3, Nat.le_refl L, fun _ => by simp, ?_, by rw [decide_eq_true rfl, Bool.or_true], by rw [pk_us]; exact sg1, v1⟩)
        rcases f1 y hy with ⟨w, _⟩ | ⟨_, _, w, _⟩ | ⟨K, w, _, wL, _⟩
        · rw [q] at w; exact absurd w (by decide)
        · exact w
        · rw [q] at w
          exact absurd (show (-2 : Int32) < 0 by decide) (by rw [w]; exact nI_pos (by omega))
      · rw [pk_un (show x * 8 + y ≠ x * 8 + g by omega), decide_eq_false ey, Bool.or_false]
        rcases f1 y hy with w | w | ⟨K, w1, w2, w3, w4, w5, w6, w7, w8⟩
        · exact Or.inl w
        · refine Or.inr (Or.inl ⟨w.1, ?_, w.2.2⟩)
          rcases n with n | n
          · exact absurd w.1 (n.2.2.2.2 y hy ey)
          · exact n.1
        · refine Or.inr (Or.inr ⟨K, w1, w2, w3, fun _ => by simp; exact w3, w5, w6, ?_, fun c hc => ?_⟩)
          · rw [pk_un (by omega)]; exact w7
          · rw [v2 _ (fun c' hc' => by omega)]; exact w8 c hc
  · obtain ⟨o1, o2, o3, o4⟩ := o x hx e
    refine ⟨by rw [o1, o2, x1], by rw [o1]; exact x2, fun z => ?_⟩
    rw [o1] at z
    obtain ⟨⟨a1, a2, a3⟩, ⟨b1, b2, b3, b4, b5⟩, ⟨c1, c2, c3⟩, ⟨q1, q2⟩, p1, f1⟩ := x3 z
    have zCx : ∀ y, y < P → upd zC (b * 8 + g) (nI L) (x * 8 + y) = zC (x * 8 + y) := fun y hy => pk_un (by omega)
    refine ⟨⟨a1, a2, a3⟩, ⟨b1, b2, b3, b4, b5⟩, ⟨by rw [o3, o4]; exact c1, fun z2 => ?_, fun z1 => ?_⟩, ⟨q1, ?_⟩, fun i hi hPi => by rw [pk_un e]; exact p1 i hi hPi, fun y hy => ?_⟩
    · rw [o4]
      simp only [if_neg e]
      exact c2 (by rw [← o1]; exact z2)
    · rw [o4]
      obtain ⟨w1, y, hy, w2⟩ := c3 (by rw [← o1]; exact z1)
      exact ⟨w1, y, hy, by rw [zCx y hy]; exact w2⟩
    · rcases q2 with ⟨w1, w2⟩ | ⟨B, w1, w2, w3, w4, w5, w6⟩
      · exact Or.inl ⟨w1, fun y hy => by rw [zCx y hy]; exact w2 y hy⟩
      · have ne : B ≠ b := fun z => by subst z; rw [s1] at w3; exact absurd w3 (by decide)
        refine Or.inr ⟨B, w1, w2, by rw [(o B w1 ne).1]; exact w3, ?_, w5, fun y hy => by rw [zCx y hy]; exact w6 y hy⟩
        simp only [if_neg ne]
        exact w4
    · unfold tr_Pg
      rw [zCx y hy, pk_un e, o1]
      rcases f1 y hy with w | w | ⟨K, w1, w2, w3, w4, w5, w6, w7, w8⟩
      · exact Or.inl w
      · exact Or.inr (Or.inl w)
      · refine Or.inr (Or.inr ⟨K, w1, w2, w3, ?_, w5, w6, ?_, fun c hc => ?_⟩)
        · simp only [if_neg e]; exact w4
        · rw [pk_un (by omega)]; exact w7
        · rw [v2 _ (fun c' hc' => by omega)]; exact w8 c hc
section
variable {k P C S M L A Q : Nat} {md ra rn re : Int32} {cv sp pl al ob lk ls lp lc lv lb bs bS bE bB bN bP bD kS kV yk yl yp yc yv zs zS zE zB zN zC : Nat → Int32}
theorem tr_copyStep (R : tr_Rel P C S M L A Q md ra rn cv sp pl al ob lk ls lp lc lv lb bs bS bE bB bN bP bD kS kV re yk yl yp yc yv zs zS zE zB zN zC) : wpX_copyStep (fun r u' => wpY_copyStep (fun r' v' => r' = r ∧ i_Rel k u' v') (nI P, nI C, nI S, nI M, md, nI L, nI A, nI Q, re, yk, yl, yp, yc, yv, zs, zS, zE, zB, zN, zC)) (nI P, nI C, nI S, nI M, md, nI L, nI A, nI Q, ra, rn, cv, sp, pl, al, ob, lk, ls, lp, lc, lv, lb, bs, bS, bE, bB, bN, bP, bD, kS, kV) := by
  have I : i_Rel k (nI P, nI C, nI S, nI M, md, nI L, nI A, nI Q, ra, rn, cv, sp, pl, al, ob, lk, ls, lp, lc, lv, lb, bs, bS, bE, bB, bN, bP, bD, kS, kV) (nI P, nI C, nI S, nI M, md, nI L, nI A, nI Q, re, yk, yl, yp, yc, yv, zs, zS, zE, zB, zN, zC) := tr_mk R
  obtain ⟨hz, hwf, hr, hg, ⟨eS, eN, eE, rk, hb⟩, hn, hm⟩ := R
  have hz0 := hz
  obtain ⟨z1, z2, z3, z4, z5, z6, z7, z8⟩ := hz
  have hL := (hr L (Nat.le_refl L)).1
  by_cases m0 : md = 0
  · subst m0
    have LV := tr_live0 hm
    have LV0 := LV
    obtain ⟨l1, l2, l3, l4, l5, l6, l7, l8⟩ := LV
    have hn0 := hn
    rcases hn with ⟨rfl, nr⟩ | ⟨b, hb6, rfl, s1, ur⟩
    · exact br_t rfl (br_f (by decide) (br_t rfl (tr_y_running hn0 (br_f (by decide) ⟨rfl, I⟩))))
    · obtain ⟨x1, x2, x3⟩ := hb b hb6
      obtain ⟨_, _, ⟨_, _, c3⟩, _, p1, f1⟩ := x3 (by rw [s1]; decide)
      have hin : vp_in (nI b) 6 := vp_in_nI hb6 (by decide)
      have hc : (nI b).toNatClampNeg = b := nI_clamp (by omega)
      have b0 : (0 : Int32) ≤ nI b := nI_pos' (by omega)
      have ex : ∃ g, g < P ∧ zC (b * 8 + g) = -2 ∧ ∀ x, x < g → ¬ zC (b * 8 + x) = -2 := by
        obtain ⟨_, g0, hg0, w0⟩ := c3 s1
        have : ∀ n g0, g0 < n → g0 < P → zC (b * 8 + g0) = -2 → ∃ g, g < P ∧ zC (b * 8 + g) = -2 ∧ ∀ x, x < g → ¬ zC (b * 8 + x) = -2 := by
          intro n
          induction n with
          | zero => intro g0 h; exact absurd h (by omega)
          | succ n ih =>
            intro g0 h1 h2 h3
            by_cases sm : ∃ x, x < g0 ∧ zC (b * 8 + x) = -2
            · obtain ⟨x, hx1, hx2⟩ := sm
              exact ih x (by omega) (by omega) hx2
            · exact ⟨g0, h2, h3, fun x hx w => sm ⟨x, hx, w⟩⟩
        exact this (g0 + 1) g0 (by omega) hg0 w0
      obtain ⟨g, hgP, q, N⟩ := ex
      have bits : ∀ y, y < P → (bt (bP b &&& (bD b ^^^ (-1))) y = true ↔ zC (b * 8 + y) = -2) := fun y hy => by
        rw [b_and, tr_bnot _ (by omega)]
        rcases f1 y hy with ⟨w1, w2, w3⟩ | ⟨w1, w2, w3, w4⟩ | ⟨K, w1, w2, w3, w4, w5, w6, w7⟩
        · rw [w1, w2, w3]; decide
        · rw [w1, w3, w4]; decide
        · rw [w1, w6]
          exact ⟨fun z => absurd z (by cases bt (bP b) y <;> decide), fun z => absurd (show (-2 : Int32) < 0 by decide) (by rw [← z]; exact nI_pos (by omega))⟩
      refine br_t rfl (br_t b0 ⟨hin, hin, ?_⟩)
      rw [hc]
      refine tr_x_firstPage z2 hgP ((bits g hgP).mpr q) (fun x hx => tr_bf (fun w => N x hx ((bits x (by omega)).mp w))) (br_t (nI_pos' (by omega)) ?_)
      refine tr_x_copyPage z4 hb6 (by omega) (fun kV' v1 v2 => ⟨hin, hin, ?_⟩)
      have Y0 : ∀ {pp : Int32 → SY → Prop}, (tr_ct (fun x => g < x ∧ zC (b * 8 + x) = -2) P = 0 → pp (nI g) (nI P, nI C, nI S, nI M, 0, nI L, nI A, nI Q, re, yk, yl, yp, yc, yv, upd zs b 2, zS, upd zE b (nI L), zB, zN, upd zC (b * 8 + g) (nI L))) → (¬ tr_ct (fun x => g < x ∧ zC (b * 8 + x) = -2) P = 0 → pp (nI g) (nI P, nI C, nI S, nI M, 0, nI L, nI A, nI Q, re, yk, yl, yp, yc, yv, zs, zS, zE, zB, zN, upd zC (b * 8 + g) (nI L))) → wpY_copyStep pp (nI P, nI C, nI S, nI M, 0, nI L, nI A, nI Q, re, yk, yl, yp, yc, yv, zs, zS, zE, zB, zN, zC) := fun H1 H0 => br_t rfl (tr_y_running hn0 (br_t b0 ⟨P + 1, tr_y_cs1 z2 hb6 hgP q N H1 H0 (P + 1) 0 (by omega) (by omega)⟩))
      have v1' : ∀ c, c < C → kV' ((b * 8 + g) * 4 + c) = tr_fu (tr_h yk yl yp yc yv) (nI g) (nI c) L := fun c hc => (v1 c hc).trans (l1 g hgP c hc)
      have zg : tr_ct (fun x => g < x ∧ zC (b * 8 + x) = -2) P = 0 ↔ ∀ x, x < P → x ≠ g → ¬ zC (b * 8 + x) = -2 := by
        rw [tr_ct_0]
        constructor
        · intro w x hx ne y
          by_cases lt : g < x
          · exact w x hx ⟨lt, y⟩
          · exact N x (by omega) y
        · intro w x hx y
          exact w x hx (by omega) y.2
      have dn : (upd bD b (bD b ||| ((1 : Int32) <<< (nI g &&& 31))) b = bP b) ↔ tr_ct (fun x => g < x ∧ zC (b * 8 + x) = -2) P = 0 := by
        rw [zg, pk_us]
        have bo : ∀ i, i < 32 → bt (bD b ||| ((1 : Int32) <<< (nI g &&& 31))) i = (bt (bD b) i || decide (i = g)) := fun i hi => by rw [b_or, tr_bsh (by omega) hi]
        constructor
        · intro w x hx ne y
          have := bo x (by omega)
          rw [w, decide_eq_false ne, Bool.or_false] at this
          rcases f1 x hx with ⟨w1, w2, w3⟩ | ⟨w1, w2, w3, w4⟩ | ⟨K, w1, w2, w3, w4, w5, w6, w7⟩
          · rw [y] at w1; exact absurd w1 (by decide)
          · rw [w3, w4] at this; exact absurd this (by decide)
          · rw [y] at w1; exact absurd (show (-2 : Int32) < 0 by decide) (by rw [w1]; exact nI_pos (by omega))
        · intro w
          refine b_ext (fun i hi => ?_)
          rw [bo i hi]
          by_cases iP : i < P
          · by_cases ig : i = g
            · subst ig
              rw [decide_eq_true rfl, Bool.or_true]
              rcases f1 i iP with ⟨w1, w2, w3⟩ | ⟨w1, w2, w3, w4⟩ | ⟨K, w1, w2, w3, w4, w5, w6, w7⟩
              · rw [q] at w1; exact absurd w1 (by decide)
              · exact w3.symm
              · exact w5.symm
            · rw [decide_eq_false ig, Bool.or_false]
              rcases f1 i iP with ⟨w1, w2, w3⟩ | ⟨w1, w2, w3, w4⟩ | ⟨K, w1, w2, w3, w4, w5, w6, w7⟩
              · rw [w2, w3]
              · exact absurd w1 (w i iP ig)
              · rw [w5, w6]
          · obtain ⟨e1, e2⟩ := p1 i hi (by omega)
            rw [e1, e2, decide_eq_false (by omega)]; rfl
      by_cases z : tr_ct (fun x => g < x ∧ zC (b * 8 + x) = -2) P = 0
      · refine br_t (dn.mpr z) ⟨hin, nm_e ⟨hin, nm_e (Y0 (fun _ => ⟨rfl, tr_mk ?_⟩) (fun w => absurd z w))⟩⟩
        refine ⟨hz0, hwf, hr, hg, ⟨eS, eN, _, rk, tr_Bk_copy hb z2 z4 (by omega) hb6 hgP s1 q (l2 g hgP) v1' v2 (fun x _ ne => ⟨pk_un ne, pk_un ne, pk_un ne, pk_un ne⟩) (Or.inl ⟨pk_us, pk_us, pk_us, pk_us, zg.mp z⟩)⟩, Or.inl ⟨rfl, fun x hx w => ?_⟩, Or.inl ⟨rfl, LV0⟩⟩
        by_cases ex : x = b
        · subst ex; rw [pk_us] at w; exact absurd w (by decide)
        · rw [pk_un ex] at w; exact ex (ur x hx w)
      · refine br_f (fun w => z (dn.mp w)) (Y0 (fun w => absurd w z) (fun _ => ⟨rfl, tr_mk ?_⟩))
        have ex2 : ∃ x, x < P ∧ x ≠ g ∧ zC (b * 8 + x) = -2 := Classical.byContradiction (fun w => z (zg.mpr (fun x hx ne y => w ⟨x, hx, ne, y⟩)))
        exact ⟨hz0, hwf, hr, hg, ⟨eS, eN, _, rk, tr_Bk_copy hb z2 z4 (by omega) hb6 hgP s1 q (l2 g hgP) v1' v2 (fun x _ _ => ⟨rfl, rfl, rfl, rfl⟩) (Or.inr ⟨s1, x1.trans s1, rfl, rfl, ex2⟩)⟩, hn0, Or.inl ⟨rfl, LV0⟩⟩
  · exact br_f m0 (br_f m0 ⟨rfl, I⟩)
end
end
section
/-! startBackup -/
/-- the first record that a backup begun after L needs -/
noncomputable def tr_nd (h : Nat → tr_R) (L : Nat) : Nat → Nat
  | 0 => L + 1
  | s + 1 => tr_if (tr_op h (nI s) L ≠ 0 ∧ tr_op h (nI s) L < tr_nd h L s) (tr_op h (nI s) L) (tr_nd h L s)
theorem tr_nd_sp {h : Nat → tr_R} {L : Nat} : ∀ S, 1 ≤ tr_nd h L S ∧ tr_nd h L S ≤ L + 1 ∧ ∀ s, s < S → tr_op h (nI s) L ≠ 0 → tr_nd h L S ≤ tr_op h (nI s) L
  | 0 => ⟨by show 1 ≤ L + 1; omega, Nat.le_refl _, fun s hs => absurd hs (by omega)⟩
  | S + 1 => by
    obtain ⟨a, b, c⟩ := tr_nd_sp (h := h) (L := L) S
    by_cases z : tr_op h (nI S) L ≠ 0 ∧ tr_op h (nI S) L < tr_nd h L S
    · have e : tr_nd h L (S + 1) = tr_op h (nI S) L := tr_ift z
      rw [e]
      refine ⟨by omega, by omega, fun s hs o => ?_⟩
      by_cases es : s = S
      · subst es; exact Nat.le_refl _
      · have := c s (by omega) o; omega
    · have e : tr_nd h L (S + 1) = tr_nd h L S := tr_iff z
      rw [e]
      refine ⟨a, b, fun s hs o => ?_⟩
      by_cases es : s = S
      · subst es
        exact Nat.le_of_not_lt (fun y => z ⟨o, y⟩)
      · exact c s (by omega) o
section
variable {fp fc fs fm md la ar pr ra rn : Int32} {cv sp pl al ob lk ls lp lc lv lb bs bS bE bB bN bP bD kS kV : Nat → Int32} {post : Int32 → Prop}
theorem tr_x_pu4 {P : Nat} {v : Int32} {f : Nat → Prop} (hP : P ≤ 8) (hf : ∀ i, i < P → (f i ↔ (v < 0 ∨ ¬ sp i ≤ bS v.toNatClampNeg))) (hv : v < 0 ∨ vp_in v 6) (H : ∀ m, (∀ i, i < 32 → (bt m i = true ↔ i < P ∧ f i)) → post m) : ∀ n i m, i ≤ P → P - i < n → (∀ j, j < 32 → (bt m j = true ↔ j < i ∧ f j)) → wX_planUpon_4 post v (nI P) fc fs fm md la ar pr ra rn cv sp pl al ob lk ls lp lc lv lb bs bS bE bB bN bP bD kS kV n m (nI i)
  | 0, _, _ => fun _ l => absurd l (by omega)
  | n + 1, i, m => fun li ln K => by
    by_cases ei : i = P
    · subst ei
      exact br_t (nI_le (by omega) (by omega)) (H m K)
    · have ih := fun m => tr_x_pu4 hP hf hv H n (i + 1) m (by omega) (by omega)
      have yes : f i → wX_planUpon_31 post (wX_planUpon_4 post v (nI P) fc fs fm md la ar pr ra rn cv sp pl al ob lk ls lp lc lv lb bs bS bE bB bN bP bD kS kV n) v m (nI i) (nI P) fc fs fm md la ar pr ra rn cv sp pl al ob lk ls lp lc lv lb bs bS bE bB bN bP bD kS kV := fun y => by
        refine nm_e (nm_r (nI_1 i) (ih _ (fun j hj => ?_)))
        rw [b_or, tr_bsh (by omega) hj, Bool.or_eq_true, decide_eq_true_eq, K j hj]
        constructor
        · rintro (z | rfl)
          · exact ⟨by omega, z.2⟩
          · exact ⟨by omega, y⟩
        · intro z
          by_cases e : j = i
          · exact Or.inr e
          · exact Or.inl ⟨by omega, z.2⟩
      have no : ¬ f i → wX_planUpon_4 post v (nI P) fc fs fm md la ar pr ra rn cv sp pl al ob lk ls lp lc lv lb bs bS bE bB bN bP bD kS kV n m (nI (i + 1)) := fun y => ih m (fun j hj => by
        rw [K j hj]
        constructor
        · intro z; exact ⟨by omega, z.2⟩
        · intro z
          by_cases e : j = i
          · subst e; exact absurd z.2 y
          · exact ⟨by omega, z.2⟩)
      have hi := hf i (by omega)
      refine br_f (nI_ge (by omega) (by omega)) (br_c (fun a => yes (hi.mpr (Or.inl a))) (fun a => ⟨vp_in_nI (by omega) (by decide), hv.resolve_left a, ?_⟩))
      rw [nI_clamp (show i < 2 ^ 31 by omega)]
      exact br_c (fun c => nm_r (nI_1 i) (no (fun z => (hi.mp z).elim a (fun y => y c)))) (fun c => yes (hi.mpr (Or.inr c)))
theorem tr_x_planUpon {P : Nat} {v : Int32} {f : Nat → Prop} (hP : P ≤ 8) (hf : ∀ i, i < P → (f i ↔ (v < 0 ∨ ¬ sp i ≤ bS v.toNatClampNeg))) (hv : v < 0 ∨ vp_in v 6) (H : ∀ m, (∀ i, i < 32 → (bt m i = true ↔ i < P ∧ f i)) → post m) : wpX_planUpon post (nI P, fc, fs, fm, md, la, ar, pr, ra, rn, cv, sp, pl, al, ob, lk, ls, lp, lc, lv, lb, bs, bS, bE, bB, bN, bP, bD, kS, kV) v :=
  ⟨P + 1, tr_x_pu4 hP hf hv H (P + 1) 0 0 (by omega) (by omega) (fun j _ => by rw [b_0]; exact ⟨fun z => absurd z (by decide), fun z => absurd z.1 (by omega)⟩)⟩
theorem tr_x_nn9 {h : Nat → tr_R} {S L : Nat} (hS : S ≤ 4) (hL : L ≤ 256) (ho : tr_Ob S h L ob) (H : post (nI (tr_nd h L S))) : ∀ n i, i ≤ S → S - i < n → wX_needNow_9 post fp fc (nI S) fm md la ar pr ra rn cv sp pl al ob lk ls lp lc lv lb bs bS bE bB bN bP bD kS kV n (nI (tr_nd h L i)) (nI i)
  | 0, _ => fun _ l => absurd l (by omega)
  | n + 1, i => fun li ln => by
    by_cases ei : i = S
    · subst ei
      exact br_t (nI_le (by omega) (by omega)) H
    · have ih := tr_x_nn9 hS hL ho H n (i + 1) (by omega) (by omega)
      have hin : vp_in (nI i) 4 := vp_in_nI (by omega) (by decide)
      have lo := tr_op_le (h := h) (s := nI i) L
      have nb := (tr_nd_sp (h := h) (L := L) i).2.1
      refine br_f (nI_ge (by omega) (by omega)) ⟨hin, ?_⟩
      rw [nI_clamp (show i < 2 ^ 31 by omega), ho i (by omega)]
      by_cases o : tr_op h (nI i) L = 0
      · rw [show tr_nd h L (i + 1) = tr_nd h L i from tr_iff (fun z => z.1 o)] at ih
        exact br_t (by rw [o]; rfl) (nm_r (nI_1 i) ih)
      · refine br_f (nI_ne0 (by omega) (by omega)) ⟨hin, ?_⟩
        by_cases l : tr_op h (nI i) L < tr_nd h L i
        · rw [show tr_nd h L (i + 1) = tr_op h (nI i) L from tr_ift ⟨o, l⟩] at ih
          exact br_f (nI_ge l (by omega)) ⟨hin, nm_e (nm_r (nI_1 i) ih)⟩
        · rw [show tr_nd h L (i + 1) = tr_nd h L i from tr_iff (fun z => l z.2)] at ih
          exact br_t (nI_le (by omega) (by omega)) (nm_r (nI_1 i) ih)
theorem tr_x_needNow {h : Nat → tr_R} {S L : Nat} (hS : S ≤ 4) (hL : L ≤ 256) (ho : tr_Ob S h L ob) (H : post (nI (tr_nd h L S))) : wpX_needNow post (fp, fc, nI S, fm, md, nI L, ar, pr, ra, rn, cv, sp, pl, al, ob, lk, ls, lp, lc, lv, lb, bs, bS, bE, bB, bN, bP, bD, kS, kV) :=
  nm_r (nI_1 L) ⟨S + 1, tr_x_nn9 hS hL ho H (S + 1) 0 (by omega) (by omega)⟩
end
section
variable {gp gc gs gm me le ae pe re : Int32} {yk yl yp yc yv zs zS zE zB zN zC : Nat → Int32} {post : Int32 → SY → Prop}
theorem tr_y_sb0 {J : Int32 → (Nat → Int32) → (Nat → Int32) → (Nat → Int32) → (Nat → Int32) → (Nat → Int32) → (Nat → Int32) → (Nat → Int32) → (Nat → Int32) → (Nat → Int32) → (Nat → Int32) → (Nat → Int32) → Prop} {x2 : Int32} {b i : Nat} (hb : b < 6) (hi : i < 8) (H : J (nI (i + 1)) yk yl yp yc yv zs zS zE zB zN (upd zC (b * 8 + i) (-1))) : wY_startBackup_206 post J (nI b) x2 (nI i) 0 gp gc gs gm me le ae pe re yk yl yp yc yv zs zS zE zB zN zC := by
  have e2 : nI b * 8 + nI i = nI (b * 8 + i) := by rw [← nI_add, ← pk_mul]; rfl
  refine br_t rfl ?_
  rw [e2]
  unfold wY_startBackup_229
  rw [nI_clamp (show b * 8 + i < 2 ^ 31 by omega)]
  exact ⟨vp_in_nI (by omega) (by decide), nm_e (br_t rfl (br_t rfl (nm_r (nI_1 i) H)))⟩
theorem tr_y_sb1 {J : Int32 → (Nat → Int32) → (Nat → Int32) → (Nat → Int32) → (Nat → Int32) → (Nat → Int32) → (Nat → Int32) → (Nat → Int32) → (Nat → Int32) → (Nat → Int32) → (Nat → Int32) → (Nat → Int32) → Prop} {x2 : Int32} {b i : Nat} (hb : b < 6) (hi : i < 8) (H : J (nI (i + 1)) yk yl yp yc yv (upd zs b 1) zS (upd zE b (-1)) zB zN (upd zC (b * 8 + i) (-2))) : wY_startBackup_201 post J (nI b) x2 (nI i) gp gc gs gm me le ae pe re yk yl yp yc yv zs zS zE zB zN zC := by
  have e2 : nI b * 8 + nI i = nI (b * 8 + i) := by rw [← nI_add, ← pk_mul]; rfl
  have hin : vp_in (nI b) 6 := vp_in_nI hb (by decide)
  refine br_f (by decide) ?_
  rw [e2]
  unfold wY_startBackup_229
  rw [nI_clamp (show b * 8 + i < 2 ^ 31 by omega), nI_clamp (show b < 2 ^ 31 by omega)]
  refine ⟨vp_in_nI (by omega) (by decide), nm_e (br_f (by decide) ⟨hin, nm_e (br_f (by decide) ⟨hin, ?_⟩)⟩)⟩
  rw [nI_clamp (show b < 2 ^ 31 by omega)]
  exact nm_e (nm_r (nI_1 i) H)
/-- the reference's walk over the pages -/
def tr_SI (b i L : Nat) (f : Nat → Prop) (zs zE zC zs' zE' zC' : Nat → Int32) : Prop :=
  (∀ x, x < i → (f x → zC' (b * 8 + x) = -2) ∧ (¬ f x → zC' (b * 8 + x) = -1)) ∧ (∀ j, (∀ x, x < i → j ≠ b * 8 + x) → zC' j = zC j)
  ∧ (((∃ x, x < i ∧ f x) ∧ zs' b = 1 ∧ zE' b = -1) ∨ ((¬ ∃ x, x < i ∧ f x) ∧ zs' b = 2 ∧ zE' b = nI L)) ∧ (∀ x, x ≠ b → zs' x = zs x ∧ zE' x = zE x)
theorem tr_SI_0 {b i L : Nat} {f : Nat → Prop} {zs zE zC zs' zE' zC' : Nat → Int32} (X : tr_SI b i L f zs zE zC zs' zE' zC') (y : ¬ f i) : tr_SI b (i + 1) L f zs zE zC zs' zE' (upd zC' (b * 8 + i) (-1)) := by
  obtain ⟨a, c, d, e⟩ := X
  refine ⟨fun x hx => ?_, fun j hj => ?_, ?_, e⟩
  · by_cases ex : x = i
    · subst ex; rw [pk_us]; exact ⟨fun z => absurd z y, fun _ => rfl⟩
    · rw [pk_un (by omega)]; exact a x (by omega)
  · rw [pk_un (hj i (by omega))]; exact c j (fun x hx => hj x (by omega))
  · have eqv : (∃ x, x < i ∧ f x) ↔ (∃ x, x < i + 1 ∧ f x) := ⟨fun ⟨x, hx, z⟩ => ⟨x, Nat.lt_succ_of_lt hx, z⟩, fun ⟨x, hx, z⟩ => ⟨x, Nat.lt_of_le_of_ne (Nat.le_of_lt_succ hx) (fun e => y (e ▸ z)), z⟩⟩
    rw [← eqv]; exact d
theorem tr_SI_1 {b i L : Nat} {f : Nat → Prop} {zs zE zC zs' zE' zC' : Nat → Int32} (X : tr_SI b i L f zs zE zC zs' zE' zC') (y : f i) : tr_SI b (i + 1) L f zs zE zC (upd zs' b 1) (upd zE' b (-1)) (upd zC' (b * 8 + i) (-2)) := by
  obtain ⟨a, c, d, e⟩ := X
  refine ⟨fun x hx => ?_, fun j hj => ?_, Or.inl ⟨⟨i, Nat.lt_succ_self i, y⟩, pk_us, pk_us⟩, fun x hx => by rw [pk_un hx, pk_un hx]; exact e x hx⟩
  · by_cases ex : x = i
    · subst ex; rw [pk_us]; exact ⟨fun _ => rfl, fun z => absurd y z⟩
    · rw [pk_un (by omega)]; exact a x (by omega)
  · rw [pk_un (hj i (by omega))]; exact c j (fun x hx => hj x (by omega))
theorem tr_y_sb171 {P C S L b : Nat} {v : Int32} {f : Nat → Prop} {zs0 zE0 zC0 : Nat → Int32} (W : tr_wf P C S (tr_h yk yl yp yc yv) L) (hP : P ≤ 8) (hL : L ≤ 256) (hb : b < 6) (hf : ∀ i, i < P → (f i ↔ (v < 0 ∨ ¬ nI (tr_st (tr_h yk yl yp yc yv) (nI i) L) ≤ zS v.toNatClampNeg))) (hv : v < 0 ∨ vp_in v 6) (H : ∀ zs zE zC, tr_SI b P L f zs0 zE0 zC0 zs zE zC → post 0 (nI P, gc, gs, gm, me, nI L, ae, pe, re, yk, yl, yp, yc, yv, zs, zS, zE, zB, zN, zC)) : ∀ (n i : Nat) (zs zE zC : Nat → Int32), i ≤ P → P - i < n → tr_SI b i L f zs0 zE0 zC0 zs zE zC → wY_startBackup_171 post (nI b) v (nI P) gc gs gm me (nI L) ae pe re n (nI i) yk yl yp yc yv zs zS zE zB zN zC
  | 0, _, _, _, _ => fun _ l => absurd l (by omega)
  | n + 1, i, zs, zE, zC => fun li ln X => by
    by_cases ei : i = P
    · subst ei
      exact br_t (nI_le (by omega) (by omega)) (H zs zE zC X)
    · have ih := fun zs zE zC => tr_y_sb171 W hP hL hb hf hv H n (i + 1) zs zE zC (by omega) (by omega)
      have hi := hf i (by omega)
      refine br_f (nI_ge (by omega) (by omega)) (br_c (fun a => tr_y_sb1 hb (by omega) (ih _ _ _ (tr_SI_1 X (hi.mpr (Or.inl a))))) (fun a => tr_y_stamp W (by omega) hL ⟨hv.resolve_left a, ?_⟩))
      exact br_c (fun c => tr_y_sb0 hb (by omega) (ih _ _ _ (tr_SI_0 X (fun z => (hi.mp z).elim a (fun y => y c))))) (fun c => tr_y_sb1 hb (by omega) (ih _ _ _ (tr_SI_1 X (hi.mpr (Or.inr c)))))
theorem tr_y_sb103 {P C S L b : Nat} {v : Int32} {f : Nat → Prop} {zN0 : Nat → Int32} (W : tr_wf P C S (tr_h yk yl yp yc yv) L) (hP : P ≤ 8) (hS : S ≤ 4) (hL : L ≤ 256) (hb : b < 6) (hf : ∀ i, i < P → (f i ↔ (v < 0 ∨ ¬ nI (tr_st (tr_h yk yl yp yc yv) (nI i) L) ≤ zS v.toNatClampNeg))) (hv : v < 0 ∨ vp_in v 6) (H : ∀ zN' zs' zE' zC', zN' b = nI (tr_nd (tr_h yk yl yp yc yv) L S) → (∀ x, x ≠ b → zN' x = zN0 x) → tr_SI b P L f zs zE zC zs' zE' zC' → post 0 (nI P, gc, nI S, gm, me, nI L, ae, pe, re, yk, yl, yp, yc, yv, zs', zS, zE', zB, zN', zC')) : ∀ (n i : Nat) (zN : Nat → Int32), i ≤ S → S - i < n → zN b = nI (tr_nd (tr_h yk yl yp yc yv) L i) → (∀ x, x ≠ b → zN x = zN0 x) → wY_startBackup_103 post (nI b) v (nI P) gc (nI S) gm me (nI L) ae pe re n (nI i) yk yl yp yc yv zs zS zE zB zN zC
  | 0, _, _ => fun _ l => absurd l (by omega)
  | n + 1, i, zN => fun li ln X1 X2 => by
    have hin : vp_in (nI b) 6 := vp_in_nI hb (by decide)
    have hc : (nI b).toNatClampNeg = b := nI_clamp (by omega)
    by_cases ei : i = S
    · subst ei
      refine br_t (nI_le (by omega) (by omega)) ⟨hin, ?_⟩
      rw [hc]
      refine nm_e ⟨hin, nm_e ⟨P + 1, tr_y_sb171 (zs0 := zs) (zE0 := zE) (zC0 := zC) W hP hL hb hf hv (fun zs' zE' zC' Z => H zN zs' zE' zC' X1 X2 Z) (P + 1) 0 _ _ _ (by omega) (by omega) ⟨fun x hx => absurd hx (by omega), fun _ _ => rfl, Or.inr ⟨fun ⟨x, hx, _⟩ => absurd hx (by omega), pk_us, pk_us⟩, fun x hx => ⟨pk_un hx, pk_un hx⟩⟩⟩⟩
    · have ih := fun zN => tr_y_sb103 W hP hS hL hb hf hv H n (i + 1) zN (by omega) (by omega)
      have lo := tr_op_le (h := (tr_h yk yl yp yc yv)) (s := nI i) L
      have nb := (tr_nd_sp (h := (tr_h yk yl yp yc yv)) (L := L) i).2.1
      refine br_f (nI_ge (by omega) (by omega)) (tr_y_openAt hL ?_)
      by_cases o : tr_op (tr_h yk yl yp yc yv) (nI i) L = 0
      · rw [show tr_nd (tr_h yk yl yp yc yv) L (i + 1) = tr_nd (tr_h yk yl yp yc yv) L i from tr_iff (fun z => z.1 o)] at ih
        exact br_t (by rw [o]; decide) (nm_r (nI_1 i) (ih zN X1 X2))
      · refine br_f (nI_nle (by omega) (by omega)) ⟨hin, ?_⟩
        rw [hc, X1]
        by_cases l : tr_op (tr_h yk yl yp yc yv) (nI i) L < tr_nd (tr_h yk yl yp yc yv) L i
        · rw [show tr_nd (tr_h yk yl yp yc yv) L (i + 1) = tr_op (tr_h yk yl yp yc yv) (nI i) L from tr_ift ⟨o, l⟩] at ih
          exact br_f (nI_ge l (by omega)) ⟨hin, nm_e (nm_r (nI_1 i) (ih _ pk_us (fun x hx => by rw [pk_un hx]; exact X2 x hx)))⟩
        · rw [show tr_nd (tr_h yk yl yp yc yv) L (i + 1) = tr_nd (tr_h yk yl yp yc yv) L i from tr_iff (fun z => l z.2)] at ih
          exact br_t (nI_le (by omega) (by omega)) (nm_r (nI_1 i) (ih zN X1 X2))
theorem tr_y_sb72 {P C S L b : Nat} {v : Int32} {f : Nat → Prop} (W : tr_wf P C S (tr_h yk yl yp yc yv) L) (hP : P ≤ 8) (hS : S ≤ 4) (hL : L ≤ 256) (hb : b < 6) (hf : ∀ i, i < P → (f i ↔ (v < 0 ∨ ¬ nI (tr_st (tr_h yk yl yp yc yv) (nI i) L) ≤ zS v.toNatClampNeg))) (hv : v < 0 ∨ vp_in v 6) (ne : v < 0 ∨ v.toNatClampNeg ≠ b) (H : ∀ zN' zs' zE' zC', zN' b = nI (tr_nd (tr_h yk yl yp yc yv) L S) → (∀ x, x ≠ b → zN' x = zN x) → tr_SI b P L f zs zE zC zs' zE' zC' → post 0 (nI P, gc, nI S, gm, me, nI L, ae, pe, re, yk, yl, yp, yc, yv, zs', upd zS b (nI L), zE', upd zB b v, zN', zC')) : wY_startBackup_72 post (nI b) v (nI P) gc (nI S) gm me (nI L) ae pe re yk yl yp yc yv zs zS zE zB zN zC := by
  have hin : vp_in (nI b) 6 := vp_in_nI hb (by decide)
  unfold wY_startBackup_72
  rw [nI_clamp (show b < 2 ^ 31 by omega)]
  refine ⟨hin, nm_e ⟨hin, nm_e ⟨hin, nm_e ⟨S + 1, tr_y_sb103 (zS := upd zS b (nI L)) (zN0 := zN) W hP hS hL hb (f := f) (fun i hi => ?_) hv H (S + 1) 0 _ (by omega) (by omega) ?_ (fun x hx => pk_un hx)⟩⟩⟩⟩
  · rw [hf i hi]
    rcases ne with e | e
    · exact ⟨fun _ => Or.inl e, fun _ => Or.inl e⟩
    · rw [pk_un e]
  · rw [pk_us, nI_1]; rfl
end
/-- a new backup -/
theorem tr_Bk_start {P C S L b r : Nat} {h : Nat → tr_R} {bs bS bE bB bN bP bD kS kV bs' bE' zs' zE' zN' zC' zs zS zE zB zN zC : Nat → Int32} {v m : Int32} {f : Nat → Prop} {eS eN eE rk : Nat → Nat}
    (X : tr_Bk P C S h L bs bS bE bB bN bP bD kS kV zs zS zE zB zN zC eS eN eE rk) (hP : P ≤ 8) (hL : L ≤ 256) (hb : b < 6) (s0 : zs b = 0)
    (hm : ∀ i, i < 32 → (bt m i = true ↔ i < P ∧ f i)) (n1 : zN' b = nI (tr_nd h L S)) (n2 : ∀ x, x ≠ b → zN' x = zN x) (Z : tr_SI b P L f zs zE zC zs' zE' zC')
    (ba : (v = -1 ∧ ∀ x, x < P → f x) ∨ (∃ B, B < 6 ∧ v = nI B ∧ zs B = 2 ∧ rk B < r ∧ ∀ x, x < P → ¬ f x → tr_st h (nI x) L ≤ eS B))
    (o : ∀ x, x ≠ b → bs' x = bs x ∧ bE' x = bE x) (nb : bs' b = zs' b ∧ bE' b = zE' b) :
    tr_Bk P C S h L bs' (upd bS b (nI L)) bE' (upd bB b v) (upd bN b (nI (tr_nd h L S))) (upd bP b m) (upd bD b 0) kS kV zs' (upd zS b (nI L)) zE' (upd zB b v) zN' zC' (fun x => if x = b then L else eS x) (fun x => if x = b then tr_nd h L S else eN x) (fun x => if x = b then L else eE x) (fun x => if x = b then r else rk x) := by
  obtain ⟨Z1, Z2, Z3, Z4⟩ := Z
  intro x hx
  by_cases e : x = b
  · subst e
    obtain ⟨d1, d2, d3⟩ := tr_nd_sp (h := h) (L := L) S
    have zz : zs' x = 1 ∨ zs' x = 2 := by
      rcases Z3 with w | w
      · exact Or.inl w.2.1
      · exact Or.inr w.2.1
    refine ⟨nb.1, zz.elim (fun w => Or.inr (Or.inl w)) (fun w => Or.inr (Or.inr w)), fun _ => ⟨⟨?_, ?_, ?_⟩, ⟨?_, ?_, ?_, ?_, ?_⟩, ⟨nb.2, fun z2 => ?_, fun z1 => ?_⟩, ⟨?_, ?_⟩, fun i hi hPi => ?_, fun g hg => ?_⟩⟩
    · rw [pk_us]; simp
    · rw [pk_us]; simp
    · simp
    · rw [pk_us]; simp
    · rw [n1]; simp
    · simp; exact d1
    · simp; exact d2
    · simp only [if_pos]; exact d3
    · simp only [if_pos]
      rcases Z3 with w | w
      · rw [w.2.1] at z2; exact absurd z2 (by decide)
      · exact ⟨w.2.2, Nat.le_refl L, Nat.le_refl L⟩
    · rcases Z3 with w | w
      · obtain ⟨⟨y, hy, fy⟩, _, w3⟩ := w
        exact ⟨w3, y, hy, (Z1 y hy).1 fy⟩
      · rw [w.2.1] at z1; exact absurd z1 (by decide)
    · rw [pk_us, pk_us]
    · rcases ba with ⟨w1, w2⟩ | ⟨B, w1, w2, w3, w4, w5⟩
      · exact Or.inl ⟨by rw [pk_us]; exact w1, fun g hg z => by rw [(Z1 g hg).1 (w2 g hg)] at z; exact absurd z (by decide)⟩
      · have ne : B ≠ x := fun z => by subst z; rw [s0] at w3; exact absurd w3 (by decide)
        obtain ⟨_, _, y3⟩ := X B w1
        obtain ⟨_, _, ⟨_, c2, _⟩, _⟩ := y3 (by rw [w3]; decide)
        refine Or.inr ⟨B, w1, by rw [pk_us]; exact w2, by rw [(Z4 B ne).1]; exact w3, ?_, ?_, fun g hg z => ?_⟩
        · simp only [if_pos, if_neg ne]; exact (c2 w3).2.2
        · simp only [if_pos, if_neg ne]; exact w4
        · simp only [if_pos, if_neg ne]
          exact w5 g hg (fun y => by rw [(Z1 g hg).1 y] at z; exact absurd z (by decide))
    · rw [pk_us, pk_us, b_0]
      exact ⟨tr_bf (fun z => absurd ((hm i hi).mp z).1 (by omega)), rfl⟩
    · unfold tr_Pg
      rw [pk_us, pk_us, b_0]
      by_cases y : f g
      · refine Or.inr (Or.inl ⟨(Z1 g hg).1 y, ?_, (hm g (by omega)).mpr ⟨hg, y⟩, rfl⟩)
        rcases Z3 with w | w
        · exact w.2.1
        · exact absurd ⟨g, hg, y⟩ w.1
      · exact Or.inl ⟨(Z1 g hg).2 y, tr_bf (fun z => y ((hm g (by omega)).mp z).2), rfl⟩
  · obtain ⟨x1, x2, x3⟩ := X x hx
    obtain ⟨o1, o2⟩ := o x e
    obtain ⟨q1, q2⟩ := Z4 x e
    refine ⟨by rw [o1, q1, x1], by rw [q1]; exact x2, fun z => ?_⟩
    rw [q1] at z
    obtain ⟨⟨a1, a2, a3⟩, ⟨b1, b2, b3, b4, b5⟩, ⟨c1, c2, c3⟩, ⟨d1, d2⟩, p1, f1⟩ := x3 z
    have zCx : ∀ y, y < P → zC' (x * 8 + y) = zC (x * 8 + y) := fun y hy => Z2 _ (fun w hw => by omega)
    unfold tr_B1 tr_Ba tr_Pg
    rw [pk_un e, pk_un e, pk_un e, pk_un e, pk_un e, pk_un e, pk_un e, o2, q1, q2, n2 x e]
    simp only [if_neg e]
    refine ⟨⟨a1, a2, a3⟩, ⟨b1, b2, b3, b4, b5⟩, ⟨c1, c2, fun z1 => ?_⟩, ⟨d1, ?_⟩, p1, fun g hg => ?_⟩
    · obtain ⟨w1, y, hy, w2⟩ := c3 z1
      exact ⟨w1, y, hy, by rw [zCx y hy]; exact w2⟩
    · rcases d2 with ⟨w1, w2⟩ | ⟨B, w1, w2, w3, w4, w5, w6⟩
      · exact Or.inl ⟨w1, fun y hy => by rw [zCx y hy]; exact w2 y hy⟩
      · have ne : B ≠ b := fun z => by subst z; rw [s0] at w3; exact absurd w3 (by decide)
        refine Or.inr ⟨B, w1, w2, by rw [(Z4 B ne).1]; exact w3, ?_, ?_, fun y hy => ?_⟩
        · simp only [if_neg ne]; exact w4
        · simp only [if_neg ne]; exact w5
        · simp only [if_neg ne]; rw [zCx y hy]; exact w6 y hy
    · rw [zCx g hg]
      exact f1 g hg
end
section
/-! startBackup, both sides -/
section
variable {k P C S M L A Q : Nat} {md ra rn re : Int32} {cv sp pl al ob lk ls lp lc lv lb bs bS bE bB bN bP bD kS kV yk yl yp yc yv zs zS zE zB zN zC : Nat → Int32}
theorem tr_startBackup (R : tr_Rel P C S M L A Q md ra rn cv sp pl al ob lk ls lp lc lv lb bs bS bE bB bN bP bD kS kV re yk yl yp yc yv zs zS zE zB zN zC) (v1 v2 : Int32) : wpX_startBackup (fun r u' => wpY_startBackup (fun r' v' => r' = r ∧ i_Rel k u' v') (nI P, nI C, nI S, nI M, md, nI L, nI A, nI Q, re, yk, yl, yp, yc, yv, zs, zS, zE, zB, zN, zC) v1 v2) (nI P, nI C, nI S, nI M, md, nI L, nI A, nI Q, ra, rn, cv, sp, pl, al, ob, lk, ls, lp, lc, lv, lb, bs, bS, bE, bB, bN, bP, bD, kS, kV) v1 v2 := by
  have I : i_Rel k (nI P, nI C, nI S, nI M, md, nI L, nI A, nI Q, ra, rn, cv, sp, pl, al, ob, lk, ls, lp, lc, lv, lb, bs, bS, bE, bB, bN, bP, bD, kS, kV) (nI P, nI C, nI S, nI M, md, nI L, nI A, nI Q, re, yk, yl, yp, yc, yv, zs, zS, zE, zB, zN, zC) := tr_mk R
  obtain ⟨hz, hwf, hr, hg, ⟨eS, eN, eE, rk, hb⟩, hn, hm⟩ := R
  have hz0 := hz
  obtain ⟨z1, z2, z3, z4, z5, z6, z7, z8⟩ := hz
  have hL := (hr L (Nat.le_refl L)).1
  by_cases m0 : md = 0
  · subst m0
    have LV := tr_live0 hm
    have LV0 := LV
    obtain ⟨l1, l2, l3, l4, l5, l6, l7, l8⟩ := LV
    have hn0 := hn
    rcases pk_ix v1 (n := 6) (by omega) with hv | hv | ⟨b, hb6, rfl⟩
    · exact br_t rfl (tr_x_isBackup0 (Or.inl hv) (br_t rfl (br_t rfl (br_t hv ⟨rfl, I⟩))))
    · exact br_t rfl (tr_x_isBackup0 (Or.inr hv) (br_t rfl (br_t rfl (br_c (fun _ => ⟨rfl, I⟩) (fun _ => br_t (by rw [← tr_c6]; exact hv) ⟨rfl, I⟩)))))
    · obtain ⟨x1, x2, x3⟩ := hb b hb6
      have hin : vp_in (nI b) 6 := vp_in_nI hb6 (by decide)
      have hc : (nI b).toNatClampNeg = b := nI_clamp (by omega)
      have b0 : ¬ nI b < 0 := nI_pos (by omega)
      have b6 : ¬ 6 ≤ nI b := by rw [← tr_c6]; exact nI_ge hb6 (by decide)
      refine br_t rfl (tr_x_isBackup1 hb6 (br_f (by decide) ?_))
      by_cases a1 : v2 < -1
      · exact br_t a1 (br_t rfl (br_f b0 (br_f b6 (br_t a1 ⟨rfl, I⟩))))
      by_cases a2 : v2 < 6
      · refine br_f a1 (br_t a2 ?_)
        have Y0 : ∀ {pp : Int32 → SY → Prop}, ((rn < 0 → ((zs b = 0 → ((v2 < 0 → wY_startBackup_72 pp (nI b) v2 (nI P) (nI C) (nI S) (nI M) 0 (nI L) (nI A) (nI Q) re yk yl yp yc yv zs zS zE zB zN zC) ∧ (¬ v2 < 0 → (vp_in v2 6 ∧ ((zs v2.toNatClampNeg = 2 → wY_startBackup_72 pp (nI b) v2 (nI P) (nI C) (nI S) (nI M) 0 (nI L) (nI A) (nI Q) re yk yl yp yc yv zs zS zE zB zN zC) ∧ (¬ zs v2.toNatClampNeg = 2 → pp (-11) (nI P, nI C, nI S, nI M, 0, nI L, nI A, nI Q, re, yk, yl, yp, yc, yv, zs, zS, zE, zB, zN, zC))))))) ∧ (¬ zs b = 0 → pp (-10) (nI P, nI C, nI S, nI M, 0, nI L, nI A, nI Q, re, yk, yl, yp, yc, yv, zs, zS, zE, zB, zN, zC)))) ∧ (¬ rn < 0 → pp (-8) (nI P, nI C, nI S, nI M, 0, nI L, nI A, nI Q, re, yk, yl, yp, yc, yv, zs, zS, zE, zB, zN, zC))) → wpY_startBackup pp (nI P, nI C, nI S, nI M, 0, nI L, nI A, nI Q, re, yk, yl, yp, yc, yv, zs, zS, zE, zB, zN, zC) (nI b) v2 := fun z => by
          refine br_t rfl (br_f b0 (br_f b6 (br_f a1 (br_t a2 (tr_y_running hn0 ?_)))))
          rw [hc]
          exact ⟨fun y => ⟨hin, z.1 y⟩, z.2⟩
        rcases hn with ⟨rfl, nr⟩ | ⟨r, hr6, rfl, s1, ur⟩
        · refine br_t (by decide) ⟨hin, ?_⟩
          rw [hc, x1]
          by_cases s0 : zs b = 0
          · refine br_t s0 ?_
            -- the walk of both from here
            have main : (hv : v2 < 0 ∨ vp_in v2 6) → (ne : v2 < 0 ∨ v2.toNatClampNeg ≠ b) → (r : Nat) → (v2 < 0 ∨ bS v2.toNatClampNeg = zS v2.toNatClampNeg) →
                ((v2 = -1) ∨ (∃ B, B < 6 ∧ v2 = nI B ∧ zs B = 2 ∧ rk B < r)) →
                (yk' : ∀ {pp : Int32 → SY → Prop}, wY_startBackup_72 pp (nI b) v2 (nI P) (nI C) (nI S) (nI M) 0 (nI L) (nI A) (nI Q) re yk yl yp yc yv zs zS zE zB zN zC → wpY_startBackup pp (nI P, nI C, nI S, nI M, 0, nI L, nI A, nI Q, re, yk, yl, yp, yc, yv, zs, zS, zE, zB, zN, zC) (nI b) v2) →
                wX_startBackup_73 (fun r u' => wpY_startBackup (fun r' v' => r' = r ∧ i_Rel k u' v') (nI P, nI C, nI S, nI M, 0, nI L, nI A, nI Q, re, yk, yl, yp, yc, yv, zs, zS, zE, zB, zN, zC) (nI b) v2) (nI b) v2 (nI P) (nI C) (nI S) (nI M) 0 (nI L) (nI A) (nI Q) ra (-1) cv sp pl al ob lk ls lp lc lv lb bs bS bE bB bN bP bD kS kV := fun hv ne r eqS ba yk' => by
              have hf : ∀ i, i < P → ((v2 < 0 ∨ ¬ nI (tr_st (tr_h yk yl yp yc yv) (nI i) L) ≤ zS v2.toNatClampNeg) ↔ (v2 < 0 ∨ ¬ sp i ≤ bS v2.toNatClampNeg)) := fun i hi => by
                rw [l2 i hi]
                rcases eqS with e | e
                · exact ⟨fun _ => Or.inl e, fun _ => Or.inl e⟩
                · rw [e]
              unfold wX_startBackup_73
              refine tr_x_planUpon z2 hf hv (fun m hmm => ⟨hin, ?_⟩)
              rw [hc]
              refine nm_e (tr_x_needNow z6 (by omega) l3 ⟨hin, nm_e ⟨hin, nm_e ⟨hin, nm_e ⟨hin, nm_e ?_⟩⟩⟩⟩)
              have ba' : (v2 = -1 ∧ ∀ x, x < P → (v2 < 0 ∨ ¬ nI (tr_st (tr_h yk yl yp yc yv) (nI x) L) ≤ zS v2.toNatClampNeg)) ∨ (∃ B, B < 6 ∧ v2 = nI B ∧ zs B = 2 ∧ rk B < r ∧ ∀ x, x < P → ¬ (v2 < 0 ∨ ¬ nI (tr_st (tr_h yk yl yp yc yv) (nI x) L) ≤ zS v2.toNatClampNeg) → tr_st (tr_h yk yl yp yc yv) (nI x) L ≤ eS B) := by
                rcases ba with e | ⟨B, w1, w2, w3, w4⟩
                · exact Or.inl ⟨e, fun x _ => Or.inl (by rw [e]; decide)⟩
                · refine Or.inr ⟨B, w1, w2, w3, w4, fun x hx w => ?_⟩
                  obtain ⟨_, _, y3⟩ := hb B w1
                  obtain ⟨⟨_, aS, aL⟩, _⟩ := y3 (by rw [w3]; decide)
                  have w' := Classical.not_not.mp (fun y => w (Or.inr y))
                  rw [w2, nI_clamp (by omega), aS] at w'
                  have sl := tr_st_le (h := (tr_h yk yl yp yc yv)) (g := nI x) L
                  exact (nI_leI (by omega) (by omega)).mp w'
              have fin : ∀ (zN' zs' zE' zC' bs' bE' : Nat → Int32) (rn' : Int32), zN' b = nI (tr_nd (tr_h yk yl yp yc yv) L S) → (∀ x, x ≠ b → zN' x = zN x) → tr_SI b P L (fun i => v2 < 0 ∨ ¬ nI (tr_st (tr_h yk yl yp yc yv) (nI i) L) ≤ zS v2.toNatClampNeg) zs zE zC zs' zE' zC' → (∀ x, x ≠ b → bs' x = bs x ∧ bE' x = bE x) → (bs' b = zs' b ∧ bE' b = zE' b) → tr_Rn rn' zs' → i_Rel k (nI P, nI C, nI S, nI M, 0, nI L, nI A, nI Q, ra, rn', cv, sp, pl, al, ob, lk, ls, lp, lc, lv, lb, bs', upd bS b (nI L), bE', upd bB b v2, upd bN b (nI (tr_nd (tr_h yk yl yp yc yv) L S)), upd bP b m, upd bD b 0, kS, kV) (nI P, nI C, nI S, nI M, 0, nI L, nI A, nI Q, re, yk, yl, yp, yc, yv, zs', upd zS b (nI L), zE', upd zB b v2, zN', zC') := fun zN' zs' zE' zC' bs' bE' rn' n1 n2 Z o nb hn' =>
                tr_mk ⟨hz0, hwf, hr, hg, ⟨_, _, _, _, tr_Bk_start hb z2 (by omega) hb6 s0 hmm n1 n2 Z ba' o nb⟩, hn', Or.inl ⟨rfl, LV0⟩⟩
              by_cases m00 : m = 0
              · have nf : ¬ ∃ x, x < P ∧ (v2 < 0 ∨ ¬ nI (tr_st (tr_h yk yl yp yc yv) (nI x) L) ≤ zS v2.toNatClampNeg) := fun ⟨x, hx, y⟩ => by
                  have := (hmm x (by omega)).mpr ⟨hx, y⟩
                  rw [m00, b_0] at this
                  exact absurd this (by decide)
                refine br_t m00 ⟨hin, nm_e ⟨hin, nm_e (yk' (tr_y_sb72 hwf z2 z6 (by omega) hb6 (fun i hi => Iff.rfl) hv ne (fun zN' zs' zE' zC' n1 n2 Z => ⟨rfl, ?_⟩)))⟩⟩
                obtain ⟨Z1, Z2, Z3, Z4⟩ := Z
                have Z5 := Z3.resolve_left (fun w => nf w.1)
                refine fin zN' zs' zE' zC' _ _ _ n1 n2 ⟨Z1, Z2, Z3, Z4⟩ (fun x hx => ⟨pk_un hx, pk_un hx⟩) ⟨by rw [pk_us]; exact Z5.2.1.symm, by rw [pk_us]; exact Z5.2.2.symm⟩ (Or.inl ⟨rfl, fun x hx w => ?_⟩)
                by_cases ex : x = b
                · subst ex; rw [Z5.2.1] at w; exact absurd w (by decide)
                · rw [(Z4 x ex).1] at w; exact nr x hx w
              · have yf : ∃ x, x < P ∧ (v2 < 0 ∨ ¬ nI (tr_st (tr_h yk yl yp yc yv) (nI x) L) ≤ zS v2.toNatClampNeg) := by
                  obtain ⟨i, hi, w⟩ := tr_b_ne0.mp m00
                  exact ⟨i, (hmm i hi).mp w⟩
                refine br_f m00 ⟨hin, nm_e ⟨hin, nm_e (yk' (tr_y_sb72 hwf z2 z6 (by omega) hb6 (fun i hi => Iff.rfl) hv ne (fun zN' zs' zE' zC' n1 n2 Z => ⟨rfl, ?_⟩)))⟩⟩
                obtain ⟨Z1, Z2, Z3, Z4⟩ := Z
                have Z5 := Z3.resolve_right (fun w => w.1 yf)
                refine fin zN' zs' zE' zC' _ _ _ n1 n2 ⟨Z1, Z2, Z3, Z4⟩ (fun x hx => ⟨pk_un hx, pk_un hx⟩) ⟨by rw [pk_us]; exact Z5.2.1.symm, by rw [pk_us]; exact Z5.2.2.symm⟩ (Or.inr ⟨b, hb6, rfl, Z5.2.1, fun x hx w => ?_⟩)
                by_cases ex : x = b
                · exact ex
                · rw [(Z4 x ex).1] at w; exact absurd w (nr x hx)
            by_cases a3 : v2 < 0
            · refine br_t a3 (main (Or.inl a3) (Or.inl a3) 0 (Or.inl a3) (Or.inl ?_) (fun z => Y0 (br_t (by decide) (br_t s0 (br_t a3 z)))))
              have t1 := Int32.lt_iff_toInt_lt.mp a3
              have t2 : ¬ v2.toInt < (-1 : Int32).toInt := fun z => a1 (Int32.lt_iff_toInt_lt.mpr z)
              have t3 : (-1 : Int32).toInt = -1 := by decide
              have t4 : (0 : Int32).toInt = 0 := by decide
              exact Int32.toInt_inj.mp (by omega)
            · obtain ⟨B, hB, rfl⟩ := nI_of a3
              have hB6 : B < 6 := (nI_ltI hB (by decide)).mp (by rw [tr_c6]; exact a2)
              have hinB : vp_in (nI B) 6 := vp_in_nI hB6 (by decide)
              have hcB : (nI B).toNatClampNeg = B := nI_clamp (by omega)
              obtain ⟨y1, y2, y3⟩ := hb B hB6
              refine br_f a3 ⟨hinB, ?_⟩
              rw [hcB, y1]
              by_cases s2 : zs B = 2
              · obtain ⟨⟨aX, aY, aL⟩, _⟩ := y3 (by rw [s2]; decide)
                refine br_t s2 (main (Or.inr hinB) (Or.inr ?_) (rk B + 1) (Or.inr ?_) (Or.inr ⟨B, hB6, rfl, s2, by omega⟩) (fun z => Y0 (br_t (by decide) (br_t s0 (br_f a3 ⟨hinB, ?_⟩)))))
                · rw [hcB]; intro e; subst e; rw [s0] at s2; exact absurd s2 (by decide)
                · rw [hcB, aX, aY]
                · rw [hcB]; exact br_t s2 z
              · refine br_f s2 (Y0 (br_t (by decide) (br_t s0 (br_f a3 ⟨hinB, ?_⟩))))
                rw [hcB]; exact br_f s2 ⟨rfl, I⟩
          · exact br_f s0 (Y0 (br_t (by decide) (br_f s0 ⟨rfl, I⟩)))
        · have r0 : ¬ nI r < 0 := nI_pos (by omega)
          exact br_f r0 (Y0 (br_f r0 ⟨rfl, I⟩))
      · exact br_f a1 (br_f a2 (br_t rfl (br_f b0 (br_f b6 (br_f a1 (br_f a2 ⟨rfl, I⟩))))))
  · exact br_f m0 (br_f m0 ⟨rfl, I⟩)
end
end
section
/-! the cut; loseMedia -/
/-- what the component leaves of a backup -/
def tr_EA (x : Int32) (bs bS bE bB bN bP bD bs' bS' bE' bB' bN' bP' bD' : Nat → Int32) (b : Nat) : Prop :=
  (bs b = 2 ∧ ¬ bE b ≤ x → bs' b = 0) ∧ (¬ (bs b = 2 ∧ ¬ bE b ≤ x) → bs' b = bs b ∧ bS' b = bS b ∧ bE' b = bE b ∧ bB' b = bB b ∧ bN' b = bN b ∧ bP' b = bP b ∧ bD' b = bD b)
section
variable {fp fc fs fm md la ar pr ra rn : Int32} {cv sp pl al ob lk ls lp lc lv lb bs bS bE bB bN bP bD kS kV : Nat → Int32} {pv : SX → Prop}
theorem tr_x_ea2 {x : Int32} (H : ∀ bs' bS' bE' bB' bN' bP' bD', (∀ b, b < 6 → tr_EA x bs bS bE bB bN bP bD bs' bS' bE' bB' bN' bP' bD' b) → pv (fp, fc, fs, fm, md, la, ar, pr, ra, -1, cv, sp, pl, al, ob, lk, ls, lp, lc, lv, lb, bs', bS', bE', bB', bN', bP', bD', kS, kV)) :
    ∀ (n i : Nat) (bs' bS' bE' bB' bN' bP' bD' : Nat → Int32), i ≤ 6 → 6 - i < n → (∀ b, b < i → tr_EA x bs bS bE bB bN bP bD bs' bS' bE' bB' bN' bP' bD' b) → (∀ b, i ≤ b → bs' b = bs b ∧ bS' b = bS b ∧ bE' b = bE b ∧ bB' b = bB b ∧ bN' b = bN b ∧ bP' b = bP b ∧ bD' b = bD b) → wX_emptyBackupsAfter_2 pv x n (nI i) fp fc fs fm md la ar pr ra (-1) cv sp pl al ob lk ls lp lc lv lb bs' bS' bE' bB' bN' bP' bD' kS kV
  | 0, _, _, _, _, _, _, _, _ => fun _ l => absurd l (by omega)
  | n + 1, i, bs', bS', bE', bB', bN', bP', bD' => fun li ln A B => by
    by_cases ei : i = 6
    · subst ei
      exact br_t (by rw [← tr_c6]; exact nI_le (by omega) (by omega)) (H _ _ _ _ _ _ _ A)
    · have i6 : i < 6 := by omega
      have hin : vp_in (nI i) 6 := vp_in_nI i6 (by decide)
      obtain ⟨e1, e2, e3, e4, e5, e6, e7⟩ := B i (Nat.le_refl i)
      have keep : ¬ (bs i = 2 ∧ ¬ bE i ≤ x) → wX_emptyBackupsAfter_2 pv x n (nI (i + 1)) fp fc fs fm md la ar pr ra (-1) cv sp pl al ob lk ls lp lc lv lb bs' bS' bE' bB' bN' bP' bD' kS kV := fun z => tr_x_ea2 H n (i + 1) _ _ _ _ _ _ _ (by omega) (by omega) (fun b hb => by
        by_cases eb : b = i
        · subst eb; exact ⟨fun y => absurd y z, fun _ => ⟨e1, e2, e3, e4, e5, e6, e7⟩⟩
        · exact A b (by omega)) (fun b hb => B b (by omega))
      refine br_f (by rw [← tr_c6]; exact nI_ge i6 (by omega)) ⟨hin, ?_⟩
      rw [nI_clamp (show i < 2 ^ 31 by omega), e1, e3]
      refine br_c (fun a => ⟨hin, br_c (fun c => nm_r (nI_1 i) (keep (fun z => z.2 c))) (fun c => ?_)⟩) (fun a => nm_r (nI_1 i) (keep (fun z => a z.1)))
      refine tr_x_empty0 i6 (tr_m1ne (by omega)) (nm_r (nI_1 i) (tr_x_ea2 H n (i + 1) _ _ _ _ _ _ _ (by omega) (by omega) (fun b hb => ?_) (fun b hb => ?_)))
      · by_cases eb : b = i
        · subst eb; exact ⟨fun _ => pk_us, fun y => absurd ⟨a, c⟩ y⟩
        · unfold tr_EA
          rw [pk_un eb, pk_un eb, pk_un eb, pk_un eb, pk_un eb, pk_un eb, pk_un eb]
          exact A b (by omega)
      · have ne : b ≠ i := by omega
        rw [pk_un ne, pk_un ne, pk_un ne, pk_un ne, pk_un ne, pk_un ne, pk_un ne]
        exact B b (by omega)
theorem tr_x_eba {x : Int32} (e : rn = -1) (H : ∀ bs' bS' bE' bB' bN' bP' bD', (∀ b, b < 6 → tr_EA x bs bS bE bB bN bP bD bs' bS' bE' bB' bN' bP' bD' b) → pv (fp, fc, fs, fm, md, la, ar, pr, ra, -1, cv, sp, pl, al, ob, lk, ls, lp, lc, lv, lb, bs', bS', bE', bB', bN', bP', bD', kS, kV)) : wpX_emptyBackupsAfter pv (fp, fc, fs, fm, md, la, ar, pr, ra, rn, cv, sp, pl, al, ob, lk, ls, lp, lc, lv, lb, bs, bS, bE, bB, bN, bP, bD, kS, kV) x := by
  subst e
  exact ⟨7, tr_x_ea2 H 7 0 _ _ _ _ _ _ _ (by omega) (by omega) (fun b hb => absurd hb (by omega)) (fun b _ => ⟨rfl, rfl, rfl, rfl, rfl, rfl, rfl⟩)⟩
end
def tr_CU (x : Int32) (zs zE zs' : Nat → Int32) (b : Nat) : Prop := ((zs b = 1 ∨ ¬ zE b ≤ x) → zs' b = 0) ∧ (¬ (zs b = 1 ∨ ¬ zE b ≤ x) → zs' b = zs b)
section
variable {gp gc gs gm me le ae pe re : Int32} {yk yl yp yc yv zs zS zE zB zN zC : Nat → Int32} {pv : SY → Prop}
theorem tr_y_cut12 {x : Int32} (H : ∀ zs', (∀ b, b < 6 → tr_CU x zs zE zs' b) → pv (gp, gc, gs, gm, me, le, ae, pe, re, yk, yl, yp, yc, yv, zs', zS, zE, zB, zN, zC)) : ∀ (n i : Nat) (zs' : Nat → Int32), i ≤ 6 → 6 - i < n → (∀ b, b < i → tr_CU x zs zE zs' b) → (∀ b, i ≤ b → zs' b = zs b) → wY_cut_12 pv x gp gc gs gm me le ae pe re n (nI i) yk yl yp yc yv zs' zS zE zB zN zC
  | 0, _, _ => fun _ l => absurd l (by omega)
  | n + 1, i, zs' => fun li ln A B => by
    by_cases ei : i = 6
    · subst ei
      exact br_t (by rw [← tr_c6]; exact nI_le (by omega) (by omega)) (H _ A)
    · have i6 : i < 6 := by omega
      have hin : vp_in (nI i) 6 := vp_in_nI i6 (by decide)
      have e1 := B i (Nat.le_refl i)
      have off : (zs i = 1 ∨ ¬ zE i ≤ x) → wY_cut_12 pv x gp gc gs gm me le ae pe re n (nI (i + 1)) yk yl yp yc yv (upd zs' i 0) zS zE zB zN zC := fun z => tr_y_cut12 H n (i + 1) _ (by omega) (by omega) (fun b hb => by
        by_cases eb : b = i
        · subst eb; exact ⟨fun _ => pk_us, fun y => absurd z y⟩
        · unfold tr_CU
          rw [pk_un eb]
          exact A b (by omega)) (fun b hb => by rw [pk_un (by omega)]; exact B b (by omega))
      refine br_f (by rw [← tr_c6]; exact nI_ge i6 (by omega)) ⟨hin, ?_⟩
      rw [nI_clamp (show i < 2 ^ 31 by omega), e1]
      refine br_c (fun a => ⟨hin, nm_e (nm_r (nI_1 i) (off (Or.inl a)))⟩) (fun a => ⟨hin, br_c (fun c => nm_r (nI_1 i) (tr_y_cut12 H n (i + 1) _ (by omega) (by omega) (fun b hb => ?_) (fun b hb => B b (by omega)))) (fun c => ⟨hin, nm_e (nm_r (nI_1 i) (off (Or.inr c)))⟩)⟩)
      by_cases eb : b = i
      · subst eb; exact ⟨fun y => absurd y (fun w => w.elim a (fun v => v c)), fun _ => e1⟩
      · exact A b (by omega)
theorem tr_y_cut {x : Int32} (H : ∀ zs', (∀ b, b < 6 → tr_CU x zs zE zs' b) → pv (gp, gc, gs, gm, me, x, x, pe, re, yk, yl, yp, yc, yv, zs', zS, zE, zB, zN, zC)) : wpY_cut pv (gp, gc, gs, gm, me, le, ae, pe, re, yk, yl, yp, yc, yv, zs, zS, zE, zB, zN, zC) x :=
  ⟨7, tr_y_cut12 (le := x) (ae := x) H 7 0 _ (by omega) (by omega) (fun b hb => absurd hb (by omega)) (fun _ _ => rfl)⟩
end
/-- the backups behind a cut at R; zs1: the running one away -/
theorem tr_Bk_cut {P C S L R : Nat} {h : Nat → tr_R} {bs bS bE bB bN bP bD kS kV bs' bS' bE' bB' bN' bP' bD' zs0 zs' zs zS zE zB zN zC : Nat → Int32} {eS eN eE rk : Nat → Nat} (hL : L ≤ 256) (hR : R ≤ L)
    (X : tr_Bk P C S h L bs bS bE bB bN bP bD kS kV zs zS zE zB zN zC eS eN eE rk) (nr : ∀ b, b < 6 → ¬ zs b = 1) (re : ∀ b, b < 6 → zs b = zs0 b ∨ (zs b = 0 ∧ zs0 b = 1))
    (ea : ∀ b, b < 6 → tr_EA (nI R) bs bS bE bB bN bP bD bs' bS' bE' bB' bN' bP' bD' b) (cu : ∀ b, b < 6 → tr_CU (nI R) zs0 zE zs' b) :
    tr_Bk P C S h R bs' bS' bE' bB' bN' bP' bD' kS kV zs' zS zE zB zN zC eS eN eE rk ∧ ∀ b, b < 6 → ¬ zs' b = 1 := by
  have key : ∀ b, b < 6 → (zs' b = 0 ∧ bs' b = 0) ∨ (zs b = 2 ∧ eE b ≤ R ∧ zs' b = zs b ∧ bs' b = bs b ∧ bS' b = bS b ∧ bE' b = bE b ∧ bB' b = bB b ∧ bN' b = bN b ∧ bP' b = bP b ∧ bD' b = bD b) := fun b hb => by
    obtain ⟨x1, x2, x3⟩ := X b hb
    obtain ⟨a1, a2⟩ := ea b hb
    obtain ⟨c1, c2⟩ := cu b hb
    have x4 : zs b = 0 ∨ zs b = 2 := x2.elim Or.inl (fun w => w.elim (fun v => absurd v (nr b hb)) Or.inr)
    rcases x4 with z | z
    · refine Or.inl ⟨?_, ?_⟩
      · by_cases w : zs0 b = 1 ∨ ¬ zE b ≤ nI R
        · exact c1 w
        · rw [c2 w]
          rcases re b hb with v | v
          · rw [← v]; exact z
          · exact absurd (Or.inl v.2) w
      · rw [(a2 (fun w => by rw [x1, z] at w; exact absurd w.1 (by decide))).1, x1]; exact z
    · obtain ⟨_, _, ⟨d1, d2, _⟩, _⟩ := x3 (by rw [z]; decide)
      obtain ⟨d3, d4, d5⟩ := d2 z
      have z0 : zs0 b = 2 := by
        rcases re b hb with v | v
        · rw [← v]; exact z
        · rw [v.1] at z; exact absurd z (by decide)
      by_cases w : eE b ≤ R
      · have w' : zE b ≤ nI R := by rw [d3]; exact nI_le w (by omega)
        refine Or.inr ⟨z, w, ?_, a2 (fun v => v.2 (by rw [d1]; exact w'))⟩
        rw [c2 (fun v => v.elim (fun y => by rw [z0] at y; exact absurd y (by decide)) (fun y => y w')), z0, z]
      · have w' : ¬ zE b ≤ nI R := by rw [d3]; exact nI_ge (by omega) (by omega)
        exact Or.inl ⟨c1 (Or.inr w'), a1 ⟨by rw [x1]; exact z, by rw [d1]; exact w'⟩⟩
  constructor
  · refine tr_Bk_sub X (fun b hb => ?_) (fun b hb z B hB e2 e3 e4 w => ?_) (fun b hb z => ?_)
    · rcases key b hb with y | ⟨_, _, y⟩
      · exact Or.inl y
      · exact Or.inr y
    · rcases key b hb with y | ⟨y1, y2, y3⟩
      · exact z y.1
      · obtain ⟨_, _, x3⟩ := X b hb
        obtain ⟨_, _, ⟨_, d2, _⟩, _⟩ := x3 (by rw [y1]; decide)
        have d3 := (d2 y1).2.1
        obtain ⟨_, _, x4⟩ := X B hB
        obtain ⟨_, _, ⟨f1, f2, _⟩, _⟩ := x4 (by rw [e3]; decide)
        have f3 := (f2 e3).1
        have f4 : zE B ≤ nI R := by rw [f3]; exact nI_le (by omega) (by omega)
        have z0 : zs0 B = 2 := by
          rcases re B hB with v | v
          · rw [← v]; exact e3
          · rw [v.1] at e3; exact absurd e3 (by decide)
        rw [(cu B hB).2 (fun v => v.elim (fun y => by rw [z0] at y; exact absurd y (by decide)) (fun y => y f4)), z0] at w
        exact absurd w (by decide)
    · rcases key b hb with y | ⟨y1, y2, _⟩
      · exact absurd y.1 z
      · exact Or.inr ⟨y1, y2⟩
  · intro b hb w
    rcases key b hb with y | ⟨y1, y2, y3, _⟩
    · rw [y.1] at w; exact absurd w (by decide)
    · rw [y3, y1] at w; exact absurd w (by decide)
section
variable {fp fc fs fm md la ar pr ra rn : Int32} {cv sp pl al ob lk ls lp lc lv lb bs bS bE bB bN bP bD kS kV : Nat → Int32} {post : Int32 → SX → Prop} {x : Int32}
theorem tr_c4 : nI 4 = 4 := by decide +kernel
theorem tr_x_lm107 (H : ∀ sp', post x (fp, fc, fs, fm, 1, la, ar, pr, ra, rn, cv, sp', pl, al, ob, lk, ls, lp, lc, lv, lb, bs, bS, bE, bB, bN, bP, bD, kS, kV)) : ∀ (n i : Nat) (sp : Nat → Int32), i ≤ 8 → 8 - i < n → wX_loseMedia_107 post x fp fc fs fm md la ar pr ra rn n (nI i) cv sp pl al ob lk ls lp lc lv lb bs bS bE bB bN bP bD kS kV
  | 0, _, _ => fun _ l => absurd l (by omega)
  | n + 1, i, sp => fun li ln => by
    by_cases ei : i = 8
    · subst ei
      exact br_t (by rw [← tr_c8]; exact nI_le (by omega) (by omega)) (H sp)
    · exact br_f (by rw [← tr_c8]; exact nI_ge (by omega) (by omega)) ⟨vp_in_nI (by omega) (by decide), nm_e (nm_r (nI_1 i) (tr_x_lm107 H n (i + 1) _ (by omega) (by omega)))⟩
theorem tr_x_lm72 (H : ∀ cv' pl' al' sp', tr_Z pl' al' → post x (fp, fc, fs, fm, 1, la, ar, pr, ra, rn, cv', sp', pl', al', ob, lk, ls, lp, lc, lv, lb, bs, bS, bE, bB, bN, bP, bD, kS, kV)) : ∀ (n i : Nat) (cv pl al : Nat → Int32), i ≤ 32 → 32 - i < n → (∀ j, j < i → pl j = 0 ∧ al j = 0) → wX_loseMedia_72 post x fp fc fs fm md la ar pr ra rn n (nI i) cv sp pl al ob lk ls lp lc lv lb bs bS bE bB bN bP bD kS kV
  | 0, _, _, _, _ => fun _ l => absurd l (by omega)
  | n + 1, i, cv, pl, al => fun li ln Z => by
    by_cases ei : i = 32
    · subst ei
      exact br_t (by rw [← tr_c32]; exact nI_le (by omega) (by omega)) ⟨9, tr_x_lm107 (fun sp' => H cv pl al sp' Z) 9 0 sp (by omega) (by omega)⟩
    · have hin : vp_in (nI i) 32 := vp_in_nI (by omega) (by decide)
      refine br_f (by rw [← tr_c32]; exact nI_ge (by omega) (by omega)) ?_
      rw [nI_clamp (show i < 2 ^ 31 by omega)]
      refine ⟨hin, nm_e ⟨hin, nm_e ⟨hin, nm_e (nm_r (nI_1 i) (tr_x_lm72 H n (i + 1) _ _ _ (by omega) (by omega) (fun j hj => ?_)))⟩⟩⟩
      by_cases e : j = i
      · subst e; rw [pk_us, pk_us]; exact ⟨rfl, rfl⟩
      · rw [pk_un e, pk_un e]; exact Z j (by omega)
theorem tr_x_lm52 (H : ∀ ob' cv' pl' al' sp', tr_Z pl' al' → post x (fp, fc, fs, fm, 1, la, ar, pr, ra, rn, cv', sp', pl', al', ob', lk, ls, lp, lc, lv, lb, bs, bS, bE, bB, bN, bP, bD, kS, kV)) : ∀ (n i : Nat) (ob : Nat → Int32), i ≤ 4 → 4 - i < n → wX_loseMedia_52 post x fp fc fs fm md la ar pr ra rn n (nI i) cv sp pl al ob lk ls lp lc lv lb bs bS bE bB bN bP bD kS kV
  | 0, _, _ => fun _ l => absurd l (by omega)
  | n + 1, i, ob => fun li ln => by
    by_cases ei : i = 4
    · subst ei
      exact br_t (by rw [← tr_c4]; exact nI_le (by omega) (by omega)) ⟨33, tr_x_lm72 (fun cv' pl' al' sp' z => H ob cv' pl' al' sp' z) 33 0 cv pl al (by omega) (by omega) (fun j hj => absurd hj (by omega))⟩
    · exact br_f (by rw [← tr_c4]; exact nI_ge (by omega) (by omega)) ⟨vp_in_nI (by omega) (by decide), nm_e (nm_r (nI_1 i) (tr_x_lm52 H n (i + 1) _ (by omega) (by omega)))⟩
theorem tr_x_lm42 (e : rn = -1) (H : ∀ bs' bS' bE' bB' bN' bP' bD' ob' cv' pl' al' sp', (∀ b, b < 6 → tr_EA ar bs bS bE bB bN bP bD bs' bS' bE' bB' bN' bP' bD' b) → tr_Z pl' al' → post x (fp, fc, fs, fm, 1, la, ar, pr, ra, -1, cv', sp', pl', al', ob', lk, ls, lp, lc, lv, lb, bs', bS', bE', bB', bN', bP', bD', kS, kV)) : wX_loseMedia_42 post x fp fc fs fm md la ar pr ra rn cv sp pl al ob lk ls lp lc lv lb bs bS bE bB bN bP bD kS kV := by
  unfold wX_loseMedia_42
  exact tr_x_eba e (fun bs' bS' bE' bB' bN' bP' bD' ea => ⟨5, tr_x_lm52 (fun ob' cv' pl' al' sp' z => H bs' bS' bE' bB' bN' bP' bD' ob' cv' pl' al' sp' ea z) 5 0 ob (by omega) (by omega)⟩)
end
section
variable {k P C S M L A Q : Nat} {md ra rn re : Int32} {cv sp pl al ob lk ls lp lc lv lb bs bS bE bB bN bP bD kS kV yk yl yp yc yv zs zS zE zB zN zC : Nat → Int32}
theorem tr_loseMedia (R : tr_Rel P C S M L A Q md ra rn cv sp pl al ob lk ls lp lc lv lb bs bS bE bB bN bP bD kS kV re yk yl yp yc yv zs zS zE zB zN zC) : wpX_loseMedia (fun r u' => wpY_loseMedia (fun r' v' => r' = r ∧ i_Rel k u' v') (nI P, nI C, nI S, nI M, md, nI L, nI A, nI Q, re, yk, yl, yp, yc, yv, zs, zS, zE, zB, zN, zC)) (nI P, nI C, nI S, nI M, md, nI L, nI A, nI Q, ra, rn, cv, sp, pl, al, ob, lk, ls, lp, lc, lv, lb, bs, bS, bE, bB, bN, bP, bD, kS, kV) := by
  have I : i_Rel k (nI P, nI C, nI S, nI M, md, nI L, nI A, nI Q, ra, rn, cv, sp, pl, al, ob, lk, ls, lp, lc, lv, lb, bs, bS, bE, bB, bN, bP, bD, kS, kV) (nI P, nI C, nI S, nI M, md, nI L, nI A, nI Q, re, yk, yl, yp, yc, yv, zs, zS, zE, zB, zN, zC) := tr_mk R
  obtain ⟨hz, hwf, hr, hg, ⟨eS, eN, eE, rk, hb⟩, hn, hm⟩ := R
  have hL := (hr L (Nat.le_refl L)).1
  by_cases m0 : md = 0
  · subst m0
    obtain ⟨l1, l2, l3, l4, l5, l6, l7, l8⟩ := tr_live0 hm
    have Y0 : ∀ {pp : Int32 → SY → Prop}, (∀ zs', (∀ b, b < 6 → tr_CU (nI A) zs zE zs' b) → pp (nI L - nI A) (nI P, nI C, nI S, nI M, 1, nI A, nI A, nI Q, re, yk, yl, yp, yc, yv, zs', zS, zE, zB, zN, zC)) → wpY_loseMedia pp (nI P, nI C, nI S, nI M, 0, nI L, nI A, nI Q, re, yk, yl, yp, yc, yv, zs, zS, zE, zB, zN, zC) := fun H => br_t rfl (nm_e (tr_y_cut (fun zs' cu => H zs' cu)))
    have fin : ∀ (bs1 bS1 bE1 bB1 bN1 bP1 bD1 zs1 bs' bS' bE' bB' bN' bP' bD' ob' cv' pl' al' sp' zs' : Nat → Int32), tr_Bk P C S (tr_h yk yl yp yc yv) L bs1 bS1 bE1 bB1 bN1 bP1 bD1 kS kV zs1 zS zE zB zN zC eS eN eE rk → (∀ b, b < 6 → ¬ zs1 b = 1) → (∀ b, b < 6 → zs1 b = zs b ∨ (zs1 b = 0 ∧ zs b = 1)) → (∀ b, b < 6 → tr_EA (nI A) bs1 bS1 bE1 bB1 bN1 bP1 bD1 bs' bS' bE' bB' bN' bP' bD' b) → tr_Z pl' al' → (∀ b, b < 6 → tr_CU (nI A) zs zE zs' b) → i_Rel k (nI P, nI C, nI S, nI M, 1, nI A, nI A, nI Q, ra, -1, cv', sp', pl', al', ob', lk, ls, lp, lc, lv, lb, bs', bS', bE', bB', bN', bP', bD', kS, kV) (nI P, nI C, nI S, nI M, 1, nI A, nI A, nI Q, re, yk, yl, yp, yc, yv, zs', zS, zE, zB, zN, zC) := fun _ _ _ _ _ _ _ _ _ _ _ _ _ _ _ _ _ _ _ _ _ X nr re' ea z cu => by
      obtain ⟨b1, b2⟩ := tr_Bk_cut (R := A) (by omega) l8 X nr re' ea cu
      exact tr_mk ⟨hz, fun q a b => hwf q a (by omega), fun p hp => hr p (by omega), fun q a b => hg q a (by omega), ⟨eS, eN, eE, rk, b1⟩, Or.inl ⟨rfl, b2⟩, Or.inr (Or.inl ⟨rfl, z, rfl, rfl, l7⟩)⟩
    have hn0 := hn
    refine br_t rfl (nm_e ?_)
    rcases hn with ⟨rfl, nr⟩ | ⟨r, hr6, rfl, s1, ur⟩
    · exact br_t (by decide) (tr_x_lm42 rfl (fun _ _ _ _ _ _ _ _ _ _ _ _ ea z => Y0 (fun zs' cu => ⟨rfl, fin _ _ _ _ _ _ _ zs _ _ _ _ _ _ _ _ _ _ _ _ _ hb nr (fun _ _ => Or.inl rfl) ea z cu⟩)))
    · have Rn := tr_Rn_e hr6 hn0 s1
      have hb1 := tr_Bk_e (b := r) hb (fun x _ _ _ w => by rw [s1] at w; exact absurd w (by decide))
      refine br_f (nI_pos (by omega)) (tr_x_empty1 hr6 rfl (tr_x_lm42 rfl (fun _ _ _ _ _ _ _ _ _ _ _ _ ea z => Y0 (fun zs' cu => ⟨rfl, fin _ _ _ _ _ _ _ (upd zs r 0) _ _ _ _ _ _ _ _ _ _ _ _ _ hb1 (fun b hb w => ?_) (fun b hb => ?_) ea z cu⟩))))
      · by_cases e : b = r
        · subst e; rw [pk_us] at w; exact absurd w (by decide)
        · rw [pk_un e] at w; exact e (ur b hb w)
      · by_cases e : b = r
        · subst e; rw [pk_us]; exact Or.inr ⟨rfl, s1⟩
        · rw [pk_un e]; exact Or.inl rfl
  · exact br_f m0 (br_f m0 ⟨rfl, I⟩)
end
end
section
/-! restore: the pages out of the chain of backups -/
theorem tr_ct_lt {f f' : Nat → Prop} {j : Nat} (E : ∀ x, f x → f' x) (a : ¬ f j) (b : f' j) : ∀ n, (n ≤ j → tr_ct f n ≤ tr_ct f' n) ∧ (j < n → tr_ct f n + 1 ≤ tr_ct f' n)
  | 0 => ⟨fun _ => Nat.le_refl 0, fun z => absurd z (by omega)⟩
  | n + 1 => by
    obtain ⟨p, q⟩ := tr_ct_lt E a b n
    have e1 : tr_ct f (n + 1) = tr_ct f n + tr_if (f n) 1 0 := rfl
    have e2 : tr_ct f' (n + 1) = tr_ct f' n + tr_if (f' n) 1 0 := rfl
    have mono : tr_if (f n) 1 0 ≤ tr_if (f' n) 1 0 := by
      by_cases z : f n
      · rw [tr_ift z, tr_ift (E n z)]; exact Nat.le_refl 1
      · rw [tr_iff z]; exact Nat.zero_le _
    constructor
    · intro l
      have := p (by omega)
      omega
    · intro l
      by_cases e : j = n
      · subst e
        rw [tr_iff a] at e1
        rw [tr_ift b] at e2
        have := p (Nat.le_refl j)
        omega
      · have := q (by omega)
        omega
/-- how many backups have a smaller rank -/
noncomputable def tr_mu (rk : Nat → Nat) (b : Nat) : Nat := tr_ct (fun x => rk x < rk b) 6
theorem tr_mu_lt {rk : Nat → Nat} {b B : Nat} (hB : B < 6) (l : rk B < rk b) : tr_mu rk B + 1 ≤ tr_mu rk b :=
  (tr_ct_lt (f := fun x => rk x < rk B) (f' := fun x => rk x < rk b) (j := B) (fun x hx => Nat.lt_trans hx l) (Nat.lt_irrefl _) l 6).2 hB
theorem tr_mu_5 {rk : Nat → Nat} {b : Nat} (hb : b < 6) : tr_mu rk b ≤ 5 := by
  have h1 := (tr_ct_lt (f := fun x => rk x < rk b) (f' := fun _ => True) (j := b) (fun _ _ => trivial) (Nat.lt_irrefl _) trivial 6).2 hb
  have h2 := tr_ct_le (f := fun _ => True) 6
  unfold tr_mu
  omega
/-- the kept copy at (src, g) is the page as it was at some K between the two positions -/
def tr_SK (C : Nat) (h : Nat → tr_R) (kS kV : Nat → Int32) (lo hi src g : Nat) : Prop := ∃ K, lo ≤ K ∧ K ≤ hi ∧ kS (src * 8 + g) = nI (tr_st h (nI g) K) ∧ ∀ c, c < C → kV ((src * 8 + g) * 4 + c) = tr_fu h (nI g) (nI c) K
section
variable {fp fc fs fm md la ar pr ra rn : Int32} {cv sp pl al ob lk ls lp lc lv lb bs bS bE bB bN bP bD kS kV : Nat → Int32} {post : Int32 → Prop} {pv : SX → Prop}
theorem tr_x_so5 {P C S L g : Nat} {h : Nat → tr_R} {zs zS zE zB zN zC : Nat → Int32} {eS eN eE rk : Nat → Nat} (X : tr_Bk P C S h L bs bS bE bB bN bP bD kS kV zs zS zE zB zN zC eS eN eE rk) (W : tr_wf P C S h L) (hP : P ≤ 8) (hg : g < P) : ∀ n b hp, b < 6 → zs b = 2 → hp + tr_mu rk b ≤ 5 → tr_mu rk b < n → (∀ src, src < 6 → tr_SK C h kS kV (eS b) (eE b) src g → post (nI src)) → wX_sourceOf_5 post (nI g) fp fc fs fm md la ar pr ra rn cv sp pl al ob lk ls lp lc lv lb bs bS bE bB bN bP bD kS kV n (nI b) (nI hp)
  | 0, _, _ => fun _ _ _ l => absurd l (by omega)
  | n + 1, b, hp => fun hb s2 lm ln H => by
    obtain ⟨x1, x2, x3⟩ := X b hb
    obtain ⟨⟨a1, a2, a3⟩, _, ⟨c1, c2, c3⟩, ⟨d1, d2⟩, p1, f1⟩ := x3 (by rw [s2]; decide)
    obtain ⟨c4, c5, c6⟩ := c2 s2
    have hin : vp_in (nI b) 6 := vp_in_nI hb (by decide)
    refine br_f (by rw [← tr_c6]; exact nI_ge (by omega) (by omega)) (br_f (nI_pos (by omega)) ⟨hin, ?_⟩)
    rw [nI_clamp (show b < 2 ^ 31 by omega)]
    rcases f1 g hg with ⟨w1, w2, w3⟩ | ⟨w1, w2, w3, w4⟩ | ⟨K, w1, w2, w3, w4, w5, w6, w7, w8⟩
    · refine br_t ((tr_bz (by omega)).mpr w3) ⟨hin, ?_⟩
      rcases d2 with ⟨q1, q2⟩ | ⟨B, q1, q2, q3, q4, q5, q6⟩
      · exact absurd w1 (q2 g hg)
      · have ml := tr_mu_lt q1 q5
        refine nm_r (d1.trans q2) (nm_r (nI_1 hp) (tr_x_so5 X W hP hg n B (hp + 1) q1 q3 (by omega) (by omega) (fun src hs Z => H src hs ?_)))
        obtain ⟨K, k1, k2, k3, k4⟩ := Z
        have W' : tr_wf P C S h (eS b) := fun q x y => W q x (by omega)
        have q7 := q6 g hg w1
        obtain ⟨t1, t2⟩ := tr_st_same (n := eS b) (m := K) W' (show g < 2 ^ 31 by omega) (by omega) (by omega)
        exact ⟨eS b, Nat.le_refl _, c5, by rw [k3, t1], fun c hc => by rw [k4 c hc, t2]⟩
    · rw [s2] at w2; exact absurd w2 (by decide)
    · exact br_f ((tr_bnz (by omega)).mpr w6) (H b hb ⟨K, w2, w4 s2, w7, w8⟩)
theorem tr_x_ld39 {C g : Nat} {x4 : Int32} {f : Nat → Int32} {src : Nat} (hC : C ≤ 4) (hg : g < 8) (hs : src < 6) (e4 : x4 = nI (src * 8 + g)) (hf : ∀ c, c < C → f c = kV ((src * 8 + g) * 4 + c)) (H : ∀ cv', (∀ c, c < C → cv' (g * 4 + c) = f c) → (∀ j, (∀ c, c < C → j ≠ g * 4 + c) → cv' j = cv j) → pv (fp, nI C, fs, fm, md, la, ar, pr, ra, rn, cv', sp, pl, al, ob, lk, ls, lp, lc, lv, lb, bs, bS, bE, bB, bN, bP, bD, kS, kV)) : ∀ (n i : Nat) (cv' : Nat → Int32), i ≤ C → C - i < n → (∀ c, c < i → cv' (g * 4 + c) = f c) → (∀ j, (∀ c, c < i → j ≠ g * 4 + c) → cv' j = cv j) → wX_loadPage_39 pv (nI g) (nI src) x4 fp (nI C) fs fm md la ar pr ra rn n (nI i) cv' sp pl al ob lk ls lp lc lv lb bs bS bE bB bN bP bD kS kV
  | 0, _, _ => fun _ l => absurd l (by omega)
  | n + 1, i, cv' => fun li ln A B => by
    by_cases ei : i = C
    · subst ei
      exact br_t (nI_le (by omega) (by omega)) (H cv' A B)
    · have e1 : nI g * 4 + nI i = nI (g * 4 + i) := by rw [← nI_add, ← pk_mul]; rfl
      have e2 : x4 * 4 + nI i = nI ((src * 8 + g) * 4 + i) := by rw [e4, ← nI_add ((src * 8 + g) * 4), ← pk_mul]; rfl
      refine br_f (nI_ge (by omega) (by omega)) (br_t (nI_pos' (by omega)) ?_)
      rw [e1, e2, nI_clamp (show g * 4 + i < 2 ^ 31 by omega), nI_clamp (show (src * 8 + g) * 4 + i < 2 ^ 31 by omega)]
      refine ⟨vp_in_nI (by omega) (by decide), vp_in_nI (by omega) (by decide), nm_e (nm_r (nI_1 i) (tr_x_ld39 hC hg hs e4 hf H n (i + 1) _ (by omega) (by omega) (fun c hc => ?_) (fun j hj => ?_)))⟩
      · by_cases e : c = i
        · subst e; rw [pk_us]; exact (hf c (by omega)).symm
        · rw [pk_un (by omega)]; exact A c (by omega)
      · rw [pk_un (hj i (by omega))]
        exact B j (fun c hc => hj c (by omega))
theorem tr_x_ld39z {C g : Nat} {x4 : Int32} (hC : C ≤ 4) (hg : g < 8) (H : ∀ cv', (∀ c, c < C → cv' (g * 4 + c) = 0) → (∀ j, (∀ c, c < C → j ≠ g * 4 + c) → cv' j = cv j) → pv (fp, nI C, fs, fm, md, la, ar, pr, ra, rn, cv', sp, pl, al, ob, lk, ls, lp, lc, lv, lb, bs, bS, bE, bB, bN, bP, bD, kS, kV)) : ∀ (n i : Nat) (cv' : Nat → Int32), i ≤ C → C - i < n → (∀ c, c < i → cv' (g * 4 + c) = 0) → (∀ j, (∀ c, c < i → j ≠ g * 4 + c) → cv' j = cv j) → wX_loadPage_39 pv (nI g) (-1) x4 fp (nI C) fs fm md la ar pr ra rn n (nI i) cv' sp pl al ob lk ls lp lc lv lb bs bS bE bB bN bP bD kS kV
  | 0, _, _ => fun _ l => absurd l (by omega)
  | n + 1, i, cv' => fun li ln A B => by
    by_cases ei : i = C
    · subst ei
      exact br_t (nI_le (by omega) (by omega)) (H cv' A B)
    · have e1 : nI g * 4 + nI i = nI (g * 4 + i) := by rw [← nI_add, ← pk_mul]; rfl
      refine br_f (nI_ge (by omega) (by omega)) (br_f (by decide) ?_)
      rw [e1, nI_clamp (show g * 4 + i < 2 ^ 31 by omega)]
      refine ⟨vp_in_nI (by omega) (by decide), nm_e (nm_r (nI_1 i) (tr_x_ld39z hC hg H n (i + 1) _ (by omega) (by omega) (fun c hc => ?_) (fun j hj => ?_)))⟩
      · by_cases e : c = i
        · subst e; rw [pk_us]
        · rw [pk_un (by omega)]; exact A c (by omega)
      · rw [pk_un (hj i (by omega))]
        exact B j (fun c hc => hj c (by omega))
/-- page g as it was at some K between the two positions -/
def tr_PK (C : Nat) (h : Nat → tr_R) (cv sp : Nat → Int32) (lo hi g : Nat) : Prop := ∃ K, lo ≤ K ∧ K ≤ hi ∧ sp g = nI (tr_st h (nI g) K) ∧ ∀ c, c < C → cv (g * 4 + c) = tr_fu h (nI g) (nI c) K
/-- the page g loaded, the others as they were -/
def tr_LP (P C : Nat) (h : Nat → tr_R) (cv sp cv' sp' : Nat → Int32) (lo hi g : Nat) : Prop := tr_PK C h cv' sp' lo hi g ∧ ∀ y, y < P → y ≠ g → sp' y = sp y ∧ ∀ c, c < C → cv' (y * 4 + c) = cv (y * 4 + c)
theorem tr_x_loadB {P C S L g b : Nat} {h : Nat → tr_R} {zs zS zE zB zN zC : Nat → Int32} {eS eN eE rk : Nat → Nat} (X : tr_Bk P C S h L bs bS bE bB bN bP bD kS kV zs zS zE zB zN zC eS eN eE rk) (W : tr_wf P C S h L) (hP : P ≤ 8) (hC : C ≤ 4) (hg : g < P) (hb : b < 6) (s2 : zs b = 2) (H : ∀ cv' sp', tr_LP P C h cv sp cv' sp' (eS b) (eE b) g → pv (fp, nI C, fs, fm, md, la, ar, pr, ra, rn, cv', sp', pl, al, ob, lk, ls, lp, lc, lv, lb, bs, bS, bE, bB, bN, bP, bD, kS, kV)) : wpX_loadPage pv (fp, nI C, fs, fm, md, la, ar, pr, ra, rn, cv, sp, pl, al, ob, lk, ls, lp, lc, lv, lb, bs, bS, bE, bB, bN, bP, bD, kS, kV) (nI b) (nI g) := by
  unfold wpX_loadPage
  have m5 := tr_mu_5 (rk := rk) hb
  refine ⟨6, tr_x_so5 X W hP hg 6 b 0 hb s2 (by omega) (by omega) (fun src hs Z => ?_)⟩
  have e8 : nI src * 8 + nI g = nI (src * 8 + g) := by rw [← nI_add, ← pk_mul]; rfl
  refine nm_r e8 (br_t (nI_pos' (by omega)) ⟨vp_in_nI (by omega) (by decide), vp_in_nI (by omega) (by decide), ?_⟩)
  rw [nI_clamp (show src * 8 + g < 2 ^ 31 by omega), nI_clamp (show g < 2 ^ 31 by omega)]
  obtain ⟨K, k1, k2, k3, k4⟩ := Z
  refine nm_e ⟨C + 1, tr_x_ld39 (sp := upd sp g (kS (src * 8 + g))) (f := fun c => kV ((src * 8 + g) * 4 + c)) hC (by omega) hs rfl (fun c _ => rfl) (fun cv' A B => H cv' _ ⟨⟨K, k1, k2, by rw [pk_us, k3], fun c hc => by rw [A c hc, k4 c hc]⟩, fun y hy ne => ⟨pk_un ne, fun c hc => B _ (fun c' hc' => by omega)⟩⟩) (C + 1) 0 cv (by omega) (by omega) (fun c hc => absurd hc (by omega)) (fun _ _ => rfl)⟩
theorem tr_x_loadN {P C g : Nat} {h : Nat → tr_R} (hP : P ≤ 8) (hC : C ≤ 4) (hg : g < P) (H : ∀ cv' sp', tr_LP P C h cv sp cv' sp' 0 0 g → pv (fp, nI C, fs, fm, md, la, ar, pr, ra, rn, cv', sp', pl, al, ob, lk, ls, lp, lc, lv, lb, bs, bS, bE, bB, bN, bP, bD, kS, kV)) : wpX_loadPage pv (fp, nI C, fs, fm, md, la, ar, pr, ra, rn, cv, sp, pl, al, ob, lk, ls, lp, lc, lv, lb, bs, bS, bE, bB, bN, bP, bD, kS, kV) (-1) (nI g) := by
  unfold wpX_loadPage
  refine ⟨1, br_f (by decide) (br_t (by decide) ?_)⟩
  refine nm_e (br_f (by decide) ⟨vp_in_nI (by omega) (by decide), ?_⟩)
  rw [nI_clamp (show g < 2 ^ 31 by omega)]
  refine nm_e ⟨C + 1, tr_x_ld39z (sp := upd sp g 0) hC (by omega) (fun cv' A B => H cv' _ ⟨⟨0, Nat.le_refl 0, Nat.le_refl 0, pk_us, fun c hc => A c hc⟩, fun y hy ne => ⟨pk_un ne, fun c hc => B _ (fun c' hc' => by omega)⟩⟩) (C + 1) 0 cv (by omega) (by omega) (fun c hc => absurd hc (by omega)) (fun _ _ => rfl)⟩
end
end
section
/-! restore: the redo -/
def tr_mx (q k : Nat) : Nat := if q ≤ k then k else q
theorem tr_mx_lo {q k : Nat} (l : k ≤ q) : tr_mx q k = q := by
  unfold tr_mx
  by_cases e : q ≤ k
  · rw [if_pos e]; omega
  · rw [if_neg e]
theorem tr_mx_hi {q k : Nat} (l : q ≤ k) : tr_mx q k = k := if_pos l
/-- the pages while the records up to q are repeated: page g was loaded as it was at K g -/
def tr_RP (P C : Nat) (h : Nat → tr_R) (K : Nat → Nat) (q : Nat) (cv sp : Nat → Int32) : Prop := ∀ g, g < P → sp g = nI (tr_st h (nI g) (tr_mx q (K g))) ∧ ∀ c, c < C → cv (g * 4 + c) = tr_fu h (nI g) (nI c) (tr_mx q (K g))
/-- who is open, as far as seen from need on -/
def tr_RO (S : Nat) (h : Nat → tr_R) (nd q : Nat) (ob : Nat → Int32) : Prop := ∀ s, s < S → ob s = nI (tr_if (nd ≤ tr_op h (nI s) q) (tr_op h (nI s) q) 0)
section
variable {P C S q nd : Nat} {h : Nat → tr_R} {K : Nat → Nat} {cv sp ob : Nat → Int32}
theorem tr_RP1 (W : tr_wf P C S h (q + 1)) (hP : P ≤ 8) {g : Nat} (hg : g < P) (T : tr_tc h (nI g) (q + 1) → q + 1 ≤ K g) (X : sp g = nI (tr_st h (nI g) (tr_mx q (K g))) ∧ ∀ c, c < C → cv (g * 4 + c) = tr_fu h (nI g) (nI c) (tr_mx q (K g))) : sp g = nI (tr_st h (nI g) (tr_mx (q + 1) (K g))) ∧ ∀ c, c < C → cv (g * 4 + c) = tr_fu h (nI g) (nI c) (tr_mx (q + 1) (K g)) := by
  by_cases l : q + 1 ≤ K g
  · rw [tr_mx_hi l]
    rw [tr_mx_hi (show q ≤ K g by omega)] at X
    exact X
  · have nt : ¬ tr_tc h (nI g) (q + 1) := fun t => l (T t)
    rw [tr_mx_lo (show K g ≤ q + 1 by omega), tr_st_n nt]
    rw [tr_mx_lo (show K g ≤ q by omega)] at X
    exact ⟨X.1, fun c hc => by rw [X.2 c hc, tr_fu_t W (by omega) nt]⟩
theorem tr_RP_n (W : tr_wf P C S h (q + 1)) (hP : P ≤ 8) (T : ∀ g, g < P → tr_tc h (nI g) (q + 1) → q + 1 ≤ K g) (X : tr_RP P C h K q cv sp) : tr_RP P C h K (q + 1) cv sp := fun g hg => tr_RP1 W hP hg (T g hg) (X g hg)
theorem tr_tc_14 {g : Nat} (hg : g < 2 ^ 31) (k : (h (q + 1)).1 = 1 ∨ (h (q + 1)).1 = 4) (pg : (h (q + 1)).2.2.1 = -1) : ¬ tr_tc h (nI g) (q + 1) := by
  rintro (t | t)
  · exact tr_m1ne hg (pg.symm.trans t)
  · rcases k with k | k <;> exact absurd (k.symm.trans t.1) (by decide)
theorem tr_RO_b {s : Nat} (hS : S ≤ 4) (hs : s < S) (es : (h (q + 1)).2.1 = nI s) (k : (h (q + 1)).1 = 1) (l : nd ≤ q + 1) (X : tr_RO S h nd q ob) : tr_RO S h nd (q + 1) (upd ob s (nI (q + 1))) := by
  intro t ht
  by_cases e : t = s
  · subst e; rw [pk_us, tr_op_b es k, tr_ift l]
  · rw [pk_un e, X t ht, tr_op_o (by rw [es, nI_eq (by omega) (by omega)]; exact fun z => e z.symm)]
theorem tr_RO_e {s : Nat} (hS : S ≤ 4) (hs : s < S) (es : (h (q + 1)).2.1 = nI s) (k : (h (q + 1)).1 = 4 ∨ (h (q + 1)).1 = 5) (l : 1 ≤ nd) (X : tr_RO S h nd q ob) : tr_RO S h nd (q + 1) (upd ob s 0) := by
  intro t ht
  by_cases e : t = s
  · subst e; rw [pk_us, tr_op_e es k, tr_iff (by omega)]; rfl
  · rw [pk_un e, X t ht, tr_op_o (by rw [es, nI_eq (by omega) (by omega)]; exact fun z => e z.symm)]
theorem tr_RO_c (k : (h (q + 1)).1 = 2 ∨ (h (q + 1)).1 = 3) (X : tr_RO S h nd q ob) : tr_RO S h nd (q + 1) ob := by
  intro t ht
  rw [X t ht, tr_op_c (by rcases k with k | k <;> rw [k] <;> decide) (by rcases k with k | k <;> rw [k] <;> decide) (by rcases k with k | k <;> rw [k] <;> decide)]
end
section
variable {fp fc fs fm md la ar pr ra rn : Int32} {cv sp pl al ob lk ls lp lc lv lb bs bS bE bB bN bP bD kS kV : Nat → Int32} {post : Int32 → Prop} {pv : SX → Prop}
theorem tr_x_redoChange {P C S q : Nat} {h : Nat → tr_R} {K : Nat → Nat} {x : Int32} (hx : x = nI (q + 1)) (hP : P ≤ 8) (hC : C ≤ 4) (hq : q ≤ 300) (W : tr_wf P C S h (q + 1)) (kk : (h (q + 1)).1 = 2 ∨ (h (q + 1)).1 = 3)
    (G : lk ((q + 1) % 96) = (h (q + 1)).1 ∧ ls ((q + 1) % 96) = (h (q + 1)).2.1 ∧ lp ((q + 1) % 96) = (h (q + 1)).2.2.1 ∧ lc ((q + 1) % 96) = (h (q + 1)).2.2.2.1 ∧ lv ((q + 1) % 96) = (h (q + 1)).2.2.2.2) (hK : ∀ g, g < P → K g ≤ 300) (X : tr_RP P C h K q cv sp) (H : ∀ cv' sp', tr_RP P C h K (q + 1) cv' sp' → pv (fp, fc, fs, fm, md, la, ar, pr, ra, rn, cv', sp', pl, al, ob, lk, ls, lp, lc, lv, lb, bs, bS, bE, bB, bN, bP, bD, kS, kV)) : wpX_redoChange pv (fp, fc, fs, fm, md, la, ar, pr, ra, rn, cv, sp, pl, al, ob, lk, ls, lp, lc, lv, lb, bs, bS, bE, bB, bN, bP, bD, kS, kV) x := by
  subst hx
  have k5 : ¬ (h (q + 1)).1 = 5 := by rcases kk with k | k <;> rw [k] <;> decide
  obtain ⟨g, c, hg, hc, eg, ec⟩ : ∃ g c, g < P ∧ c < C ∧ (h (q + 1)).2.2.1 = nI g ∧ (h (q + 1)).2.2.2.1 = nI c := by
    rcases (W (q + 1) (by omega) (Nat.le_refl _)).2 with z | z | z
    · rcases kk with k | k <;> exact absurd (k.symm.trans z.1) (by decide)
    · obtain ⟨_, _, ⟨g, hg, eg⟩, ⟨c, hc, ec⟩, _⟩ := z
      exact ⟨g, c, hg, hc, eg, ec⟩
    · rcases kk with k | k <;> rcases z.1 with y | y <;> exact absurd (k.symm.trans y) (by decide)
  obtain ⟨r1, r2, r3, r4, r5⟩ := G
  have hlt : (q + 1) % 96 < 96 := Nat.mod_lt _ (by decide)
  have hin : vp_in (nI ((q + 1) % 96)) 96 := vp_in_nI hlt (by decide)
  have hgin : vp_in (nI g) 8 := vp_in_nI (by omega) (by decide)
  have hix : vp_in (nI (g * 4 + c)) 32 := vp_in_nI (by omega) (by decide)
  have tcg : tr_tc h (nI g) (q + 1) := Or.inl eg
  have tcn : ∀ y, y < P → y ≠ g → ¬ tr_tc h (nI y) (q + 1) := fun y hy ne t => by
    rcases t with t | t
    · exact ne ((nI_eq (show g < 2 ^ 31 by omega) (show y < 2 ^ 31 by omega)).mp (eg.symm.trans t)).symm
    · exact k5 t.1
  refine ⟨by decide, nm_r (tr_rem (by omega)) ⟨hin, ?_⟩⟩
  rw [nI_clamp (show (q + 1) % 96 < 2 ^ 31 by omega), r3, r4, r1, r5, eg, ec]
  refine nm_e (br_f (nI_pos (by omega)) ⟨hgin, ?_⟩)
  rw [nI_clamp (show g < 2 ^ 31 by omega), (X g hg).1]
  by_cases l : q + 1 ≤ K g
  · have s1 := tr_st_ge (h := h) (by omega) tcg (K g) l
    have s2 := tr_st_le (h := h) (g := nI g) (K g)
    refine br_f ?_ (H cv sp (tr_RP_n W hP (fun y hy t => ?_) X))
    · rw [tr_mx_hi (show q ≤ K g by omega)]
      have kg := hK g hg
      exact nI_nlt s1 (by omega)
    · by_cases e : y = g
      · subst e; exact l
      · exact absurd t (tcn y hy e)
  · have s2 := tr_st_le (h := h) (g := nI g) q
    have fin : ∀ x, x = tr_ef (h (q + 1)) (cv (g * 4 + c)) → pv (fp, fc, fs, fm, md, la, ar, pr, ra, rn, upd cv (g * 4 + c) x, upd sp g (nI (q + 1)), pl, al, ob, lk, ls, lp, lc, lv, lb, bs, bS, bE, bB, bN, bP, bD, kS, kV) := fun x hx => by
      refine H _ _ (fun y hy => ?_)
      by_cases e : y = g
      · subst e
        have X0 := X y hy
        rw [tr_mx_lo (show K y ≤ q by omega)] at X0
        rw [tr_mx_lo (show K y ≤ q + 1 by omega), pk_us, tr_st_t tcg]
        refine ⟨rfl, fun c' hc' => ?_⟩
        by_cases e2 : c' = c
        · subst e2
          rw [pk_us, hx, X0.2 c' hc', tr_fu_c ⟨eg, ec⟩ kk]
        · rw [pk_un (by omega), X0.2 c' hc', tr_fu_n (fun o => e2 ((nI_eq (show c < 2 ^ 31 by omega) (show c' < 2 ^ 31 by omega)).mp (ec.symm.trans o.2)).symm) k5]
      · have := tr_RP1 (K := K) (cv := cv) (sp := sp) W hP hy (fun t => absurd t (tcn y hy e)) (X y hy)
        rw [pk_un e]
        exact ⟨this.1, fun c' hc' => by rw [pk_un (by omega)]; exact this.2 c' hc'⟩
    refine br_t ?_ ⟨hin, nm_r (e' := nI (g * 4 + c)) (by rw [← nI_add, ← pk_mul]; rfl) ?_⟩
    · rw [tr_mx_lo (show K g ≤ q by omega)]
      exact nI_lt (by omega) (by omega)
    · rw [nI_clamp (show g * 4 + c < 2 ^ 31 by omega)]
      refine ⟨hin, ?_⟩
      rcases kk with k2 | k3
      · exact br_t k2 ⟨hin, hix, nm_e ⟨hgin, nm_e (fin _ (tr_ef2 k2).symm)⟩⟩
      · exact br_f (by rw [k3]; decide) ⟨hix, hin, hix, nm_e ⟨hgin, nm_e (fin _ (tr_ef3 k3).symm)⟩⟩
end
end
section
/-! restore: a repeated ABORT; the whole redo; the open transactions taken back -/
section
variable {fp fc fs fm md la ar pr ra rn : Int32} {cv sp pl al ob lk ls lp lc lv lb bs bS bE bB bN bP bD kS kV : Nat → Int32} {post : Int32 → Prop} {pv : SX → Prop}
theorem tr_x_ra24 {P C S q s : Nat} {h : Nat → tr_R} {K : Nat → Nat} {lo x : Int32} (hlo : lo = nI (tr_op h (nI s) q)) (hx : x = nI (q + 1)) (hP : P ≤ 8) (hC : C ≤ 4) (hq : q ≤ 300) (W : tr_wf P C S h (q + 1)) (k5 : (h (q + 1)).1 = 5) (es : (h (q + 1)).2.1 = nI s) (o0 : tr_op h (nI s) q ≠ 0) (hK : ∀ g, g < P → K g ≤ 300)
    (G : ∀ r, tr_op h (nI s) q < r → r ≤ q → lk (r % 96) = (h r).1 ∧ ls (r % 96) = (h r).2.1 ∧ lp (r % 96) = (h r).2.2.1 ∧ lc (r % 96) = (h r).2.2.2.1 ∧ lv (r % 96) = (h r).2.2.2.2 ∧ ((h r).1 = 2 → lb (r % 96) = tr_fu h (h r).2.2.1 (h r).2.2.2.1 (r - 1)))
    (X : tr_RP P C h K q cv sp) (H : ∀ cv' sp', tr_RP P C h K (q + 1) cv' sp' → pv (nI P, fc, fs, fm, md, la, ar, pr, ra, rn, cv', sp', pl, al, ob, lk, ls, lp, lc, lv, lb, bs, bS, bE, bB, bN, bP, bD, kS, kV)) :
    ∀ (n i : Nat) (mm : Int32), i ≤ P → P - i < n → (∀ g, g < P → (bt mm g = true ↔ tr_tc h (nI g) (q + 1) ∧ (g < i → K g ≤ q))) → wX_redoAbort_24 pv (nI s) x lo (nI P) fc fs fm md la ar pr ra rn cv sp pl al ob lk ls lp lc lv lb bs bS bE bB bN bP bD kS kV n mm (nI i)
  | 0, _, _ => fun _ l => absurd l (by omega)
  | n + 1, i, mm => fun li ln M => by
    have pg : (h (q + 1)).2.2.1 = -1 := by
      rcases (W (q + 1) (by omega) (Nat.le_refl _)).2 with z | z | z
      · exact z.2.2.1
      · rcases z.1 with y | y <;> exact absurd (k5.symm.trans y) (by decide)
      · exact z.2.2.1
    have W0 : tr_wf P C S h q := fun r a b => W r a (by omega)
    by_cases ei : i = P
    · subst ei
      refine br_t (nI_le (Nat.le_refl i) (by omega)) (tr_x_takeBack (h := h) (P := i) (C := C) (S := S) (D := fun _ => False) hlo hx hP hC (by omega) W0 o0 (fun z => z) G (fun g hg c hc b => ?_) (fun cv' c1 => tr_x_stampPages hP (fun sp' c2 => H cv' sp' (fun g hg => ?_))))
      · obtain ⟨t, kg⟩ := (M g hg).mp b
        have kg := kg hg
        rw [tr_kD_0, (X g hg).2 c hc, tr_mx_lo kg]
      · by_cases b : bt mm g = true
        · obtain ⟨t, kg⟩ := (M g hg).mp b
          have kg := kg hg
          rw [tr_mx_lo (show K g ≤ q + 1 by omega), (c2 g hg).1 b, tr_st_t t, hx]
          exact ⟨rfl, fun c hc => by rw [(c1 g hg c hc).1 b, tr_fu_ab k5 pg es (by omega)]⟩
        · have b' := tr_bf b
          have := tr_RP1 (K := K) (cv := cv) (sp := sp) W hP hg (fun t => by
            have : ¬ K g ≤ q := fun z => b ((M g hg).mpr ⟨t, fun _ => z⟩)
            omega) (X g hg)
          rw [(c2 g hg).2 b']
          exact ⟨this.1, fun c hc => by rw [(c1 g hg c hc).2 b']; exact this.2 c hc⟩
    · refine br_f (nI_ge (by omega) (by omega)) ⟨vp_in_nI (by omega) (by decide), ?_⟩
      rw [nI_clamp (show i < 2 ^ 31 by omega), (X i (by omega)).1, hx]
      have kg := hK i (by omega)
      by_cases l : K i ≤ q
      · have s2 := tr_st_le (h := h) (g := nI i) q
        have lt : nI (tr_st h (nI i) (tr_mx q (K i))) < nI (q + 1) := by rw [tr_mx_lo l]; exact nI_lt (by omega) (by omega)
        have ih := tr_x_ra24 (lo := lo) hlo rfl hP hC hq W k5 es o0 hK G X H n (i + 1) mm (by omega) (by omega) (fun g hg => by
          rw [M g hg]
          constructor
          · intro z
            refine ⟨z.1, fun y => ?_⟩
            by_cases e : g = i
            · subst e; exact l
            · exact z.2 (by omega)
          · intro z
            exact ⟨z.1, fun y => z.2 (by omega)⟩)
        exact br_t lt (nm_r (nI_1 i) ih)
      · have s2 := tr_st_le (h := h) (g := nI i) (K i)
        by_cases t : tr_tc h (nI i) (q + 1)
        · have s1 := tr_st_ge (h := h) (by omega) t (K i) (by omega)
          have nlt : ¬ nI (tr_st h (nI i) (tr_mx q (K i))) < nI (q + 1) := by rw [tr_mx_hi (show q ≤ K i by omega)]; exact nI_nlt s1 (by omega)
          have ih := tr_x_ra24 (lo := lo) hlo rfl hP hC hq W k5 es o0 hK G X H n (i + 1) (mm &&& (((1 : Int32) <<< (nI i &&& 31)) ^^^ (-1))) (by omega) (by omega) (fun g hg => by
            rw [b_and, tr_bnot _ (by omega), tr_bsh (by omega) (by omega), Bool.and_eq_true, M g hg]
            by_cases e : g = i
            · subst e
              rw [decide_eq_true rfl]
              exact ⟨fun z => absurd z.2 (by decide), fun z => absurd (z.2 (by omega)) l⟩
            · rw [decide_eq_false e]
              exact ⟨fun z => ⟨z.1.1, fun y => z.1.2 (by omega)⟩, fun z => ⟨⟨z.1, fun y => z.2 (by omega)⟩, rfl⟩⟩)
          exact br_f nlt (nm_e (nm_r (nI_1 i) ih))
        · have any : ∀ mm', (∀ g, g < P → g ≠ i → bt mm' g = bt mm g) → (bt mm' i = true → False) → wX_redoAbort_24 pv (nI s) (nI (q + 1)) lo (nI P) fc fs fm md la ar pr ra rn cv sp pl al ob lk ls lp lc lv lb bs bS bE bB bN bP bD kS kV n mm' (nI (i + 1)) := fun mm' e1 e2 => tr_x_ra24 (lo := lo) hlo rfl hP hC hq W k5 es o0 hK G X H n (i + 1) mm' (by omega) (by omega) (fun g hg => by
            by_cases e : g = i
            · subst e
              exact ⟨fun z => (e2 z).elim, fun z => absurd z.1 t⟩
            · rw [e1 g hg e, M g hg]
              exact ⟨fun z => ⟨z.1, fun y => z.2 (by omega)⟩, fun z => ⟨z.1, fun y => z.2 (by omega)⟩⟩)
          have nb : bt mm i = true → False := fun z => t ((M i (by omega)).mp z).1
          refine br_c (fun _ => nm_r (nI_1 i) (any mm (fun _ _ _ => rfl) nb)) (fun _ => nm_e (nm_r (nI_1 i) (any _ (fun g hg e => ?_) (fun z => ?_))))
          · rw [b_and, tr_bnot _ (by omega), tr_bsh (by omega) (by omega), decide_eq_false e, Bool.not_false, Bool.and_true]
          · rw [b_and, Bool.and_eq_true] at z
            exact nb z.1
theorem tr_x_redoAbort {P C S q s Q nd : Nat} {h : Nat → tr_R} {K : Nat → Nat} {x : Int32} (hx : x = nI (q + 1)) (hP : P ≤ 8) (hC : C ≤ 4) (hS : S ≤ 4) (hs : s < S) (hq : q ≤ 300) (W : tr_wf P C S h (q + 1)) (k5 : (h (q + 1)).1 = 5) (es : (h (q + 1)).2.1 = nI s) (hK : ∀ g, g < P → K g ≤ 300) (Gn : Q < nd) {N : Nat} (lN : q ≤ N)
    (G : tr_Rg h Q N lk ls lp lc lv lb) (nz : ¬ nd ≤ tr_op h (nI s) q → ∀ g, g < P → q + 1 ≤ K g) (hob : ob s = nI (tr_if (nd ≤ tr_op h (nI s) q) (tr_op h (nI s) q) 0))
    (X : tr_RP P C h K q cv sp) (H : ∀ cv' sp', tr_RP P C h K (q + 1) cv' sp' → pv (nI P, fc, fs, fm, md, la, ar, pr, ra, rn, cv', sp', pl, al, ob, lk, ls, lp, lc, lv, lb, bs, bS, bE, bB, bN, bP, bD, kS, kV)) : wpX_redoAbort pv (nI P, fc, fs, fm, md, la, ar, pr, ra, rn, cv, sp, pl, al, ob, lk, ls, lp, lc, lv, lb, bs, bS, bE, bB, bN, bP, bD, kS, kV) (nI s) x := by
  have pg : (h (q + 1)).2.2.1 = -1 := by
    rcases (W (q + 1) (by omega) (Nat.le_refl _)).2 with z | z | z
    · exact z.2.2.1
    · rcases z.1 with y | y <;> exact absurd (k5.symm.trans y) (by decide)
    · exact z.2.2.1
  have W0 : tr_wf P C S h q := fun r a b => W r a (by omega)
  have lo1 := tr_op_le (h := h) (s := nI s) q
  refine ⟨vp_in_nI (by omega) (by decide), ?_⟩
  rw [nI_clamp (show s < 2 ^ 31 by omega), hob]
  by_cases l : nd ≤ tr_op h (nI s) q
  · rw [tr_ift l]
    refine nm_e (br_f (nI_ne0 (by omega) (by omega)) (tr_x_touched (h := h) (N := q) hx lo1 hq (tr_HR1 G W0 hP lN (by omega)) (fun mk T => ⟨P + 1, ?_⟩)))
    refine tr_x_ra24 (h := h) (K := K) rfl hx hP hC hq W k5 es (by omega) hK (fun r a b => G r (by omega) (by omega)) X H (P + 1) 0 mk (by omega) (by omega) (fun g hg => ?_)
    rw [tr_Tm_tc k5 pg (by omega) (by rw [es]; exact T)]
    exact ⟨fun z => ⟨z, fun y => absurd y (by omega)⟩, fun z => z.1⟩
  · rw [tr_iff l]
    exact nm_e (br_t rfl (H cv sp (tr_RP_n W hP (fun g hg _ => nz l g hg) X)))
theorem tr_x_rd25 {P C S Q N R nd st : Nat} {h : Nat → tr_R} {K : Nat → Nat} (hP : P ≤ 8) (hC : C ≤ 4) (hS : S ≤ 4) (hR : R ≤ N) (hN : N ≤ 256) (W : tr_wf P C S h N) (n0 : 1 ≤ nd) (Gn : Q < nd) (n1 : nd ≤ st + 1) (n2 : ∀ s, s < S → tr_op h (nI s) st ≠ 0 → nd ≤ tr_op h (nI s) st) (hK : ∀ g, g < P → st ≤ K g ∧ K g ≤ 256) (G : tr_Rg h Q N lk ls lp lc lv lb)
    (H : ∀ cv' sp' ob', tr_RP P C h K R cv' sp' → tr_RO S h nd R ob' → pv (nI P, fc, fs, fm, md, la, ar, pr, ra, rn, cv', sp', pl, al, ob', lk, ls, lp, lc, lv, lb, bs, bS, bE, bB, bN, bP, bD, kS, kV)) :
    ∀ (n q : Nat) (cv sp ob : Nat → Int32), nd ≤ q + 1 → q ≤ R → R - q < n → tr_RP P C h K q cv sp → tr_RO S h nd q ob → wX_redo_25 pv (nI R) n (nI (q + 1)) (nI P) fc fs fm md la ar pr ra rn cv sp pl al ob lk ls lp lc lv lb bs bS bE bB bN bP bD kS kV
  | 0, _, _, _, _ => fun _ _ l => absurd l (by omega)
  | n + 1, q, cv, sp, ob => fun l0 l1 ln X O => by
    by_cases eq : q = R
    · subst eq
      exact br_t (nI_lt (by omega) (by omega)) (H cv sp ob X O)
    · have hlt : (q + 1) % 96 < 96 := Nat.mod_lt _ (by decide)
      have hin : vp_in (nI ((q + 1) % 96)) 96 := vp_in_nI hlt (by decide)
      obtain ⟨r1, r2, r3, r4, r5, r6⟩ := G (q + 1) (by omega) (by omega)
      have W1 : tr_wf P C S h (q + 1) := fun r a b => W r a (by omega)
      have ih := fun cv sp ob => tr_x_rd25 hP hC hS hR hN W n0 Gn n1 n2 hK G H n (q + 1) cv sp ob (by omega) (by omega) (by omega)
      refine br_f (nI_nlt (by omega) (by omega)) ⟨by decide, nm_r (tr_rem (by omega)) ⟨hin, ?_⟩⟩
      rw [nI_clamp (show (q + 1) % 96 < 2 ^ 31 by omega), r1, r2]
      obtain ⟨⟨s, hs, es⟩, ok⟩ := W1 (q + 1) (Nat.succ_le_succ (Nat.zero_le q)) (Nat.le_refl _)
      have s4 : s < 4 := Nat.lt_of_lt_of_le hs hS
      have s31 : s < 2 ^ 31 := Nat.lt_trans s4 (by decide)
      have hsin : vp_in (nI s) 4 := vp_in_nI s4 (by decide)
      rw [es]
      refine nm_e ⟨hin, nm_e ?_⟩
      rw [nI_clamp s31]
      rcases ok with ⟨k, _, pg, _⟩ | ⟨k, o, -⟩ | ⟨k, o, pg, _⟩
      · exact br_t k ⟨hsin, nm_e (nm_r (nI_1 (q + 1)) (ih _ _ _ (tr_RP_n W1 hP (fun g hg t => absurd t (tr_tc_14 (by omega) (Or.inl k) pg)) X) (tr_RO_b hS hs es k (by omega) O)))⟩
      · have k1 : ¬ (h (q + 1)).1 = 1 := by rcases k with k | k <;> rw [k] <;> decide
        have k4 : ¬ (h (q + 1)).1 = 4 := by rcases k with k | k <;> rw [k] <;> decide
        have k5 : ¬ (h (q + 1)).1 = 5 := by rcases k with k | k <;> rw [k] <;> decide
        exact br_f k1 (br_f k4 (br_f k5 (tr_x_redoChange rfl hP hC (by omega) W1 k ⟨r1, r2, r3, r4, r5⟩ (fun g hg => by have := hK g hg; omega) X (fun cv' sp' X' => nm_r (nI_1 (q + 1)) (ih _ _ _ X' (tr_RO_c k O))))))
      · rcases k with k | k
        · exact br_f (by rw [k]; decide) (br_t k ⟨hsin, nm_e (nm_r (nI_1 (q + 1)) (ih _ _ _ (tr_RP_n W1 hP (fun g hg t => absurd t (tr_tc_14 (by omega) (Or.inr k) pg)) X) (tr_RO_e hS hs es (Or.inl k) n0 O)))⟩)
        · refine br_f (by rw [k]; decide) (br_f (by rw [k]; decide) (br_t k (tr_x_redoAbort (N := N) rfl hP hC hS hs (by omega) W1 k es (fun g hg => by have := hK g hg; omega) Gn (by omega) G (fun nl g hg => ?_) (O s hs) X (fun cv' sp' X' => ⟨hsin, nm_e (nm_r (nI_1 (q + 1)) (ih _ _ _ X' (tr_RO_e hS hs es (Or.inr k) n0 O)))⟩))))
          have kg := hK g hg
          rw [Nat.add_sub_cancel, es] at o
          by_cases w : q + 1 ≤ st
          · omega
          · exfalso
            have at1 := tr_op_at (h := h) (s := nI s) q st o (by omega) (by omega)
            have := n2 s hs (by rw [at1]; exact o)
            omega
theorem tr_x_rd2 {S nd R : Nat} (hS : S ≤ 4) (H : ∀ ob', (∀ s, s < S → ob' s = 0) → ∃ n, wX_redo_25 pv (nI R) n (nI nd) fp fc (nI S) fm md la ar pr ra rn cv sp pl al ob' lk ls lp lc lv lb bs bS bE bB bN bP bD kS kV) : ∀ (n i : Nat) (ob : Nat → Int32), i ≤ S → S - i < n → (∀ s, s < i → ob s = 0) → wX_redo_2 pv (nI nd) (nI R) fp fc (nI S) fm md la ar pr ra rn n (nI i) cv sp pl al ob lk ls lp lc lv lb bs bS bE bB bN bP bD kS kV
  | 0, _, _ => fun _ l => absurd l (by omega)
  | n + 1, i, ob => fun li ln A => by
    by_cases ei : i = S
    · subst ei
      exact br_t (nI_le (by omega) (by omega)) (H ob A)
    · refine br_f (nI_ge (by omega) (by omega)) ⟨vp_in_nI (by omega) (by decide), ?_⟩
      rw [nI_clamp (show i < 2 ^ 31 by omega)]
      refine nm_e (nm_r (nI_1 i) (tr_x_rd2 hS H n (i + 1) _ (by omega) (by omega) (fun s hs => ?_)))
      by_cases e : s = i
      · subst e; exact pk_us
      · rw [pk_un e]; exact A s (by omega)
theorem tr_x_redo {P C S Q N R nd st : Nat} {h : Nat → tr_R} {K : Nat → Nat} (hP : P ≤ 8) (hC : C ≤ 4) (hS : S ≤ 4) (hR : R ≤ N) (hN : N ≤ 256) (W : tr_wf P C S h N) (n0 : 1 ≤ nd) (Gn : Q < nd) (n1 : nd ≤ st + 1) (sR : st ≤ R) (n2 : ∀ s, s < S → tr_op h (nI s) st ≠ 0 → nd ≤ tr_op h (nI s) st) (hK : ∀ g, g < P → st ≤ K g ∧ K g ≤ 256) (G : tr_Rg h Q N lk ls lp lc lv lb)
    (X : ∀ g, g < P → sp g = nI (tr_st h (nI g) (K g)) ∧ ∀ c, c < C → cv (g * 4 + c) = tr_fu h (nI g) (nI c) (K g))
    (H : ∀ cv' sp' ob', tr_RP P C h K R cv' sp' → tr_RO S h nd R ob' → pv (nI P, fc, nI S, fm, md, la, ar, pr, ra, rn, cv', sp', pl, al, ob', lk, ls, lp, lc, lv, lb, bs, bS, bE, bB, bN, bP, bD, kS, kV)) : wpX_redo pv (nI P, fc, nI S, fm, md, la, ar, pr, ra, rn, cv, sp, pl, al, ob, lk, ls, lp, lc, lv, lb, bs, bS, bE, bB, bN, bP, bD, kS, kV) (nI nd) (nI R) := by
  obtain ⟨q, rfl⟩ : ∃ q, nd = q + 1 := ⟨nd - 1, by omega⟩
  refine ⟨S + 1, tr_x_rd2 (fp := nI P) hS (fun ob' hob => ⟨R + 1, tr_x_rd25 (fs := nI S) hP hC hS hR hN W n0 Gn n1 n2 hK G H (R + 1) q cv sp ob' (by omega) (by omega) (by omega) (fun g hg => ?_) (fun s hs => ?_)⟩) (S + 1) 0 ob (by omega) (by omega) (fun s hs => absurd hs (by omega))⟩
  · have := hK g hg
    rw [tr_mx_hi (show q ≤ K g by omega)]
    exact X g hg
  · have := tr_op_le (h := h) (s := nI s) q
    rw [hob s hs, tr_iff (by omega)]; rfl
/-- the slots taken back so far -/
def tr_D : Nat → Int32 → Prop
  | 0 => fun _ => False
  | s + 1 => fun t => tr_D s t ∨ t = nI s
theorem tr_D_lt {t : Nat} (ht : t < 2 ^ 31) : ∀ s, s < 2 ^ 31 → (tr_D s (nI t) ↔ t < s)
  | 0 => fun _ => ⟨fun z => z.elim, fun z => absurd z (by omega)⟩
  | s + 1 => fun hs => by
    have ih := tr_D_lt ht s (by omega)
    show (tr_D s (nI t) ∨ nI t = nI s) ↔ _
    rw [ih, nI_eq ht (by omega)]
    omega
theorem tr_x_tbo {P C S Q N R : Nat} {h : Nat → tr_R} (hP : P ≤ 8) (hC : C ≤ 4) (hS : S ≤ 4) (hR : R ≤ N) (hN : N ≤ 256) (W : tr_wf P C S h N) (G : tr_Rg h Q N lk ls lp lc lv lb) (ho : tr_Ob S h R ob) (no : tr_No S h R Q)
    (H : ∀ cv', tr_Ce P C (fun g c => tr_co h g c R) cv' → pv (fp, fc, nI S, fm, md, la, ar, pr, ra, rn, cv', sp, pl, al, ob, lk, ls, lp, lc, lv, lb, bs, bS, bE, bB, bN, bP, bD, kS, kV)) : ∀ (n i : Nat) (cv : Nat → Int32), i ≤ S → S - i < n → (∀ g, g < P → ∀ c, c < C → cv (g * 4 + c) = tr_F h (nI g) (nI c) (tr_kD h (tr_D i) R) R) → wX_takeBackOpen_2 pv (nI R) n (nI i) fp fc (nI S) fm md la ar pr ra rn cv sp pl al ob lk ls lp lc lv lb bs bS bE bB bN bP bD kS kV
  | 0, _, _ => fun _ l => absurd l (by omega)
  | n + 1, i, cv => fun li ln A => by
    have W0 : tr_wf P C S h R := fun r a b => W r a (by omega)
    by_cases ei : i = S
    · subst ei
      refine br_t (nI_le (by omega) (by omega)) (H cv (fun g hg c hc => ?_))
      rw [A g hg c hc, tr_kD_1]
      intro q h1 h2 o f
      obtain ⟨s, hs, es⟩ := (W0 q h1 h2).1
      rw [es]
      exact (tr_D_lt (by omega) i (by omega)).mpr hs
    · have hin : vp_in (nI i) 4 := vp_in_nI (by omega) (by decide)
      have lo := tr_op_le (h := h) (s := nI i) R
      refine br_f (nI_ge (by omega) (by omega)) ⟨hin, ?_⟩
      rw [nI_clamp (show i < 2 ^ 31 by omega), ho i (by omega)]
      by_cases o : tr_op h (nI i) R = 0
      · refine br_t (by rw [o]; rfl) (nm_r (nI_1 i) (tr_x_tbo hP hC hS hR hN W G ho no H n (i + 1) cv (by omega) (by omega) (fun g hg c hc => ?_)))
        rw [A g hg c hc]
        refine tr_F_k R (fun q h1 h2 on => ?_)
        constructor
        · intro z
          refine ⟨z.1, fun y => ?_⟩
          rcases y.2 with d | e
          · exact z.2 ⟨y.1, d⟩
          · have := (tr_ft_op h1 R h2 W0).mp y.1
            rw [e] at this
            exact this.1 o
        · intro z
          exact ⟨z.1, fun y => z.2 ⟨y.1, Or.inl y.2⟩⟩
      · have nq := no i (by omega) o
        refine br_f (nI_ne0 (by omega) (by omega)) ⟨hin, tr_x_takeBack (h := h) (P := P) (C := C) (S := S) (D := tr_D i) rfl (nI_1 R) hP hC (by omega) W0 o (fun z => absurd ((tr_D_lt (by omega) i (by omega)).mp z) (by omega)) (fun q a b => G q (by omega) (by omega)) (fun g hg c hc _ => A g hg c hc) (fun cv' c1 => nm_r (nI_1 i) (tr_x_tbo hP hC hS hR hN W G ho no H n (i + 1) cv' (by omega) (by omega) (fun g hg c hc => (c1 g hg c hc).1 ?_)))⟩
        rw [b_255, decide_eq_true (by omega)]
end
end
section
/-! restore -/
section
variable {fp fc fs fm md la ar pr ra rn : Int32} {cv sp pl al ob lk ls lp lc lv lb bs bS bE bB bN bP bD kS kV : Nat → Int32} {post : Int32 → SX → Prop}
theorem tr_x_r98 {P C S Q N R nd st en : Nat} {h : Nat → tr_R} {v1 : Int32} (hP : P ≤ 8) (hC : C ≤ 4) (hS : S ≤ 4) (hR : R ≤ N) (hN : N ≤ 256) (W : tr_wf P C S h N) (G : tr_Rg h Q N lk ls lp lc lv lb) (n0 : 1 ≤ nd) (Gn : Q < nd) (n1 : nd ≤ st + 1) (se : st ≤ en) (eR : en ≤ R) (n2 : ∀ s, s < S → tr_op h (nI s) st ≠ 0 → nd ≤ tr_op h (nI s) st)
    (LD : ∀ (g : Nat) (cv sp : Nat → Int32) (pv : SX → Prop), g < P → (∀ cv' sp', tr_LP P C h cv sp cv' sp' st en g → pv (nI P, nI C, nI S, fm, md, la, ar, pr, ra, rn, cv', sp', pl, al, ob, lk, ls, lp, lc, lv, lb, bs, bS, bE, bB, bN, bP, bD, kS, kV)) → wpX_loadPage pv (nI P, nI C, nI S, fm, md, la, ar, pr, ra, rn, cv, sp, pl, al, ob, lk, ls, lp, lc, lv, lb, bs, bS, bE, bB, bN, bP, bD, kS, kV) v1 (nI g))
    (H : ∀ cv' sp' ob', tr_Ce P C (fun g c => tr_co h g c R) cv' → tr_Sp P h R sp' → tr_Ob S h R ob' → tr_No S h R Q → post 0 (nI P, nI C, nI S, fm, 2, la, ar, pr, nI R, rn, cv', sp', pl, al, ob', lk, ls, lp, lc, lv, lb, bs, bS, bE, bB, bN, bP, bD, kS, kV)) :
    ∀ (n i : Nat) (cv sp : Nat → Int32), i ≤ P → P - i < n → (∀ g, g < i → tr_PK C h cv sp st en g) → wX_restore_98 post v1 (nI R) (nI nd) n (nI i) (nI P) (nI C) (nI S) fm md la ar pr ra rn cv sp pl al ob lk ls lp lc lv lb bs bS bE bB bN bP bD kS kV
  | 0, _, _, _ => fun _ l => absurd l (by omega)
  | n + 1, i, cv, sp => fun li ln A => by
    by_cases ei : i = P
    · subst ei
      have A' : ∀ g, ∃ k, g < i → (st ≤ k ∧ k ≤ en ∧ sp g = nI (tr_st h (nI g) k) ∧ ∀ c, c < C → cv (g * 4 + c) = tr_fu h (nI g) (nI c) k) := fun g => by
        by_cases hg : g < i
        · obtain ⟨k, hk⟩ := A g hg
          exact ⟨k, fun _ => hk⟩
        · exact ⟨0, fun z => absurd z hg⟩
      obtain ⟨K, hK⟩ := Classical.axiomOfChoice A'
      clear A'
      refine br_t (nI_le (Nat.le_refl i) (Nat.lt_of_le_of_lt hP (by decide))) (tr_x_redo (K := K) hP hC hS hR hN W n0 Gn n1 (Nat.le_trans se eR) n2 (fun g hg => ⟨(hK g hg).1, Nat.le_trans (hK g hg).2.1 (Nat.le_trans eR (Nat.le_trans hR hN))⟩) G (fun g hg => (hK g hg).2.2) (fun cv' sp' ob' X O => ?_))
      have mR : ∀ g, g < i → tr_mx R (K g) = R := fun g hg => tr_mx_lo (Nat.le_trans (hK g hg).2.1 eR)
      have op1 : ∀ s, s < S → tr_op h (nI s) R ≠ 0 → nd ≤ tr_op h (nI s) R := fun s hs o => by
        by_cases l : tr_op h (nI s) R ≤ st
        · have at1 := tr_op_at (h := h) (s := nI s) R st o l (Nat.le_trans se eR)
          have := n2 s hs (by rw [at1]; exact o)
          rw [at1] at this
          exact this
        · exact Nat.le_trans n1 (Nat.lt_of_not_le l)
      have ho : tr_Ob S h R ob' := fun s hs => by
        rw [O s hs]
        by_cases o : tr_op h (nI s) R = 0
        · rw [o]
          exact congrArg nI (tr_iff (fun z => absurd (Nat.le_trans n0 z) (by decide)))
        · rw [tr_ift (op1 s hs o)]
      have no : tr_No S h R Q := fun s hs o => Nat.lt_of_lt_of_le Gn (op1 s hs o)
      refine ⟨S + 1, ?_⟩
      refine tr_x_tbo (fp := nI i) (fc := nI C) hP hC hS hR hN W G ho no ?_ (S + 1) 0 cv' (Nat.zero_le S) (Nat.lt_succ_of_le (Nat.sub_le S 0)) ?_
      · intro cv2 X2
        exact H cv2 sp' ob' X2 (fun g hg => by rw [(X g hg).1, mR g hg]) ho no
      · intro g hg c hc
        rw [(X g hg).2 c hc, mR g hg]
        exact tr_kD_0.symm
    · refine br_f (nI_ge (by omega) (by omega)) (LD i cv sp _ (by omega) (fun cv' sp' Z => nm_r (nI_1 i) (tr_x_r98 hP hC hS hR hN W G n0 Gn n1 se eR n2 LD H n (i + 1) cv' sp' (by omega) (by omega) (fun g hg => ?_))))
      by_cases e : g = i
      · subst e; exact Z.1
      · obtain ⟨k, k1, k2, k3, k4⟩ := A g (by omega)
        obtain ⟨y1, y2⟩ := Z.2 g (by omega) e
        exact ⟨k, k1, k2, by rw [y1]; exact k3, fun c hc => by rw [y2 c hc]; exact k4 c hc⟩
end
section
variable {k P C S M L A Q : Nat} {md ra rn re : Int32} {cv sp pl al ob lk ls lp lc lv lb bs bS bE bB bN bP bD kS kV yk yl yp yc yv zs zS zE zB zN zC : Nat → Int32}
theorem tr_rest_core {v1 v2 : Int32} {nd st en : Nat} (hz : tr_Sz P C S M) (hwf : tr_wf P C S (tr_h yk yl yp yc yv) L) (hr : tr_Rm S M Q (tr_h yk yl yp yc yv) L) (hg : tr_Rg (tr_h yk yl yp yc yv) Q L lk ls lp lc lv lb) (hb : ∃ eS eN eE rk : Nat → Nat, tr_Bk P C S (tr_h yk yl yp yc yv) L bs bS bE bB bN bP bD kS kV zs zS zE zB zN zC eS eN eE rk) (hn : tr_Rn (-1) zs) (hZ : tr_Z pl al) (hA : A = L) (hQ : Q ≤ A) (I : i_Rel k (nI P, nI C, nI S, nI M, md, nI L, nI A, nI Q, ra, -1, cv, sp, pl, al, ob, lk, ls, lp, lc, lv, lb, bs, bS, bE, bB, bN, bP, bD, kS, kV) (nI P, nI C, nI S, nI M, md, nI L, nI A, nI Q, re, yk, yl, yp, yc, yv, zs, zS, zE, zB, zN, zC))
    (n0 : 1 ≤ nd) (n1 : nd ≤ st + 1) (se : st ≤ en) (eL : en ≤ L) (n2 : ∀ s, s < S → tr_op (tr_h yk yl yp yc yv) (nI s) st ≠ 0 → nd ≤ tr_op (tr_h yk yl yp yc yv) (nI s) st)
    (LD : ∀ (g : Nat) (cv sp : Nat → Int32) (pv : SX → Prop), g < P → (∀ cv' sp', tr_LP P C (tr_h yk yl yp yc yv) cv sp cv' sp' st en g → pv (nI P, nI C, nI S, nI M, md, nI L, nI A, nI Q, ra, -1, cv', sp', pl, al, ob, lk, ls, lp, lc, lv, lb, bs, bS, bE, bB, bN, bP, bD, kS, kV)) → wpX_loadPage pv (nI P, nI C, nI S, nI M, md, nI L, nI A, nI Q, ra, -1, cv, sp, pl, al, ob, lk, ls, lp, lc, lv, lb, bs, bS, bE, bB, bN, bP, bD, kS, kV) v1 (nI g))
    (Y : ∀ {pp : Int32 → SY → Prop}, wY_restore_69 pp v2 (nI en) (nI nd) (nI P) (nI C) (nI S) (nI M) md (nI L) (nI A) (nI Q) re yk yl yp yc yv zs zS zE zB zN zC → wpY_restore pp (nI P, nI C, nI S, nI M, md, nI L, nI A, nI Q, re, yk, yl, yp, yc, yv, zs, zS, zE, zB, zN, zC) v1 v2) :
    wX_restore_64 (fun r u' => wpY_restore (fun r' v' => r' = r ∧ i_Rel k u' v') (nI P, nI C, nI S, nI M, md, nI L, nI A, nI Q, re, yk, yl, yp, yc, yv, zs, zS, zE, zB, zN, zC) v1 v2) v1 v2 (nI en) (nI nd) (nI P) (nI C) (nI S) (nI M) md (nI L) (nI A) (nI Q) ra (-1) cv sp pl al ob lk ls lp lc lv lb bs bS bE bB bN bP bD kS kV := by
  have hz0 := hz
  obtain ⟨z1, z2, z3, z4, z5, z6, z7, z8⟩ := hz
  have hL := (hr L (Nat.le_refl L)).1
  by_cases c1 : nI en ≤ v2
  · by_cases c2 : v2 ≤ nI A
    · by_cases c3 : nI Q < nI nd
      · have v0 : ¬ v2 < 0 := fun z => Int32.lt_irrefl (Int32.lt_of_le_of_lt (Int32.le_trans (nI_pos' (show en < 2 ^ 31 by omega)) c1) z)
        obtain ⟨R, hR, rfl⟩ := nI_of v0
        have eR : en ≤ R := (nI_leI (by omega) hR).mp c1
        have RA : R ≤ A := (nI_leI hR (by omega)).mp c2
        have Qn : Q < nd := (nI_ltI (by omega) (by omega)).mp c3
        have RN : R ≤ L := by omega
        have L256 : L ≤ 256 := by omega
        have QR : Q ≤ R := by omega
        refine br_t c1 (br_t c2 (br_t c3 ⟨P + 1, tr_x_r98 (Q := Q) (N := L) z2 z4 z6 RN L256 hwf hg n0 Qn n1 se eR n2 LD (fun cv' sp' ob' h1 h2 h3 h4 => Y (br_t c1 (br_t c2 (br_t c3 ⟨rfl, tr_mk ⟨hz0, hwf, hr, hg, hb, hn, Or.inr (Or.inr ⟨rfl, rfl, hA, R, rfl, rfl, h1, h2, h3, h4, hZ, QR, RA⟩)⟩⟩)))) (P + 1) 0 cv sp (Nat.zero_le P) (Nat.lt_succ_of_le (Nat.sub_le P 0)) (fun g hg => absurd hg (Nat.not_lt_zero g))⟩))
      · exact br_t c1 (br_t c2 (br_f c3 (Y (br_t c1 (br_t c2 (br_f c3 ⟨rfl, I⟩))))))
    · exact br_t c1 (br_f c2 (Y (br_t c1 (br_f c2 ⟨rfl, I⟩))))
  · exact br_f c1 (Y (br_f c1 ⟨rfl, I⟩))
theorem tr_restore (R : tr_Rel P C S M L A Q md ra rn cv sp pl al ob lk ls lp lc lv lb bs bS bE bB bN bP bD kS kV re yk yl yp yc yv zs zS zE zB zN zC) (v1 v2 : Int32) : wpX_restore (fun r u' => wpY_restore (fun r' v' => r' = r ∧ i_Rel k u' v') (nI P, nI C, nI S, nI M, md, nI L, nI A, nI Q, re, yk, yl, yp, yc, yv, zs, zS, zE, zB, zN, zC) v1 v2) (nI P, nI C, nI S, nI M, md, nI L, nI A, nI Q, ra, rn, cv, sp, pl, al, ob, lk, ls, lp, lc, lv, lb, bs, bS, bE, bB, bN, bP, bD, kS, kV) v1 v2 := by
  have I : i_Rel k (nI P, nI C, nI S, nI M, md, nI L, nI A, nI Q, ra, rn, cv, sp, pl, al, ob, lk, ls, lp, lc, lv, lb, bs, bS, bE, bB, bN, bP, bD, kS, kV) (nI P, nI C, nI S, nI M, md, nI L, nI A, nI Q, re, yk, yl, yp, yc, yv, zs, zS, zE, zB, zN, zC) := tr_mk R
  obtain ⟨hz, hwf, hr, hg, hb0, hn, hm⟩ := R
  have hz0 := hz
  obtain ⟨z1, z2, z3, z4, z5, z6, z7, z8⟩ := hz
  have hL := (hr L (Nat.le_refl L)).1
  by_cases m0 : md = 0
  · exact br_t m0 (br_t m0 ⟨rfl, I⟩)
  have com : tr_Z pl al ∧ rn = -1 ∧ A = L ∧ Q ≤ A := by
    rcases hm with ⟨z, _⟩ | ⟨_, a, b, c, d⟩ | ⟨_, b, c, R, _, _, _, _, _, _, a, d, e⟩
    · exact absurd z m0
    · exact ⟨a, b, c, d⟩
    · exact ⟨a, b, c, Nat.le_trans d e⟩
  obtain ⟨hZ, rfl, hA, hQ⟩ := com
  by_cases a1 : v1 < -1
  · exact br_f m0 (br_t a1 (br_f m0 (br_t a1 ⟨rfl, I⟩)))
  by_cases a2 : v1 < 6
  · by_cases a3 : v1 < 0
    · have a4 : ¬ 0 ≤ v1 := Int32.not_le.mpr a3
      have e1 : v1 = -1 := by
        have t1 := Int32.lt_iff_toInt_lt.mp a3
        have t2 : ¬ v1.toInt < (-1 : Int32).toInt := fun z => a1 (Int32.lt_iff_toInt_lt.mpr z)
        have t3 : (-1 : Int32).toInt = -1 := by decide
        have t4 : (0 : Int32).toInt = 0 := by decide
        exact Int32.toInt_inj.mp (by omega)
      refine br_f m0 (br_f a1 (br_t a2 (br_t a3 (br_t a3 ?_))))
      refine tr_rest_core (nd := 1) (st := 0) (en := 0) hz0 hwf hr hg hb0 hn hZ hA hQ I (Nat.le_refl 1) (Nat.le_refl 1) (Nat.le_refl 0) (Nat.zero_le L) (fun s hs o => absurd rfl o) (fun g cv sp pv hg H => ?_) (fun z => br_f m0 (br_f a1 (br_t a2 (br_t a3 (br_f a4 (br_f a4 z))))))
      rw [e1]
      exact tr_x_loadN z2 z4 hg H
    · have a4 : 0 ≤ v1 := Int32.not_lt.mp a3
      obtain ⟨b, hb31, rfl⟩ := nI_of a3
      have hb6 : b < 6 := (nI_ltI hb31 (by decide)).mp (by rw [tr_c6]; exact a2)
      have hin : vp_in (nI b) 6 := vp_in_nI hb6 (by decide)
      have hc : (nI b).toNatClampNeg = b := nI_clamp (by omega)
      have hb1 := hb0
      obtain ⟨eS, eN, eE, rk, hb⟩ := hb0
      obtain ⟨x1, x2, x3⟩ := hb b hb6
      have Y0 : ∀ {pp : Int32 → SY → Prop}, ((zs b = 2 → wY_restore_69 pp v2 (zE b) (zN b) (nI P) (nI C) (nI S) (nI M) md (nI L) (nI A) (nI Q) re yk yl yp yc yv zs zS zE zB zN zC) ∧ (¬ zs b = 2 → pp (-11) (nI P, nI C, nI S, nI M, md, nI L, nI A, nI Q, re, yk, yl, yp, yc, yv, zs, zS, zE, zB, zN, zC))) → wpY_restore pp (nI P, nI C, nI S, nI M, md, nI L, nI A, nI Q, re, yk, yl, yp, yc, yv, zs, zS, zE, zB, zN, zC) (nI b) v2 := fun z => by
        refine br_f m0 (br_f a1 (br_t a2 (br_f a3 ⟨hin, ?_⟩)))
        rw [hc]
        refine ⟨fun e => br_t a4 ⟨hin, br_t a4 ⟨hin, ?_⟩⟩, z.2⟩
        rw [hc]
        exact z.1 e
      refine br_f m0 (br_f a1 (br_t a2 (br_f a3 ⟨hin, ?_⟩)))
      rw [hc, x1]
      by_cases s2 : zs b = 2
      · obtain ⟨⟨aX, aY, aL⟩, ⟨b1, b2, b3, b4, b5⟩, ⟨c1, c2, _⟩, _⟩ := x3 (by rw [s2]; decide)
        obtain ⟨c4, c5, c6⟩ := c2 s2
        rw [c4, b2] at Y0
        refine br_t s2 (br_f a3 ⟨hin, ?_⟩)
        rw [hc, c1, c4, b1]
        refine nm_e ⟨hin, nm_e ?_⟩
        exact tr_rest_core (nd := eN b) (st := eS b) (en := eE b) hz0 hwf hr hg hb1 hn hZ hA hQ I b3 b4 c5 c6 b5 (fun g cv sp pv hg H => tr_x_loadB hb hwf z2 z4 hg hb6 s2 H) (fun z => Y0 (br_t s2 z))
      · exact br_f s2 (Y0 (br_f s2 ⟨rfl, I⟩))
  · exact br_f m0 (br_f a1 (br_f a2 (br_f m0 (br_f a1 (br_f a2 ⟨rfl, I⟩)))))
end
end
section
/-! open -/
/-- behind R there are ABORTs alone -/
def tr_Tl (h : Nat → tr_R) (R n : Nat) : Prop := ∀ q, R < q → q ≤ n → (h q).1 = 5 ∧ (h q).2.2.1 = -1
section
variable {P C S R : Nat} {h : Nat → tr_R}
theorem tr_Tl_ft {q : Nat} (f : tr_ft h q R = 0) : ∀ d, tr_Tl h R (R + d) → tr_ft h q (R + d) = 0 ∨ tr_ft h q (R + d) = 5
  | 0 => fun _ => Or.inl f
  | d + 1 => fun T => by
    have k := (T (R + d + 1) (by omega) (by omega)).1
    rcases tr_Tl_ft f d (fun r a b => T r a (by omega)) with z | z
    · by_cases e : (h (R + d + 1)).2.1 = (h q).2.1
      · by_cases l : q ≤ R + d + 1
        · exact Or.inr ((tr_ft_e z l e (Or.inr k)).trans k)
        · exact Or.inl (tr_ft_lt (R + d + 1) (by omega))
      · exact Or.inl ((tr_ft_o e).trans z)
    · exact Or.inr ((tr_ft_k (n := R + d) (by rw [z]; decide)).trans z)
/-- all open ones aborted: the full content is what was committed at R -/
theorem tr_fu_end {n g : Nat} {c : Int32} (hg : g < 2 ^ 31) (W : tr_wf P C S h n) (l : R ≤ n) (T : tr_Tl h R n) (no : ∀ s, s < S → tr_op h (nI s) n = 0) : tr_fu h (nI g) c n = tr_co h (nI g) c R := by
  have e : R + (n - R) = n := by omega
  unfold tr_fu tr_co
  have c1 := tr_F_cut (h := h) (g := nI g) (c := c) (k := fun q => ¬ tr_ft h q n = 5) (m := R) (n - R) (fun q a b o _ => tr_m1ne hg ((T q a (by omega)).2.symm.trans o.1))
  rw [e] at c1
  rw [c1]
  refine tr_F_k R (fun q a b o => ?_)
  have nz : ¬ tr_ft h q n = 0 := fun z => by
    have w := (tr_ft_op a n (by omega) W).mp z
    obtain ⟨s, hs, es⟩ := (W q a (by omega)).1
    rw [es] at w
    exact w.1 (no s hs)
  by_cases z : tr_ft h q R = 0
  · have t := tr_Tl_ft z (n - R) (by rw [e]; exact T)
    rw [e] at t
    have t5 := t.resolve_left nz
    exact ⟨fun w => absurd t5 w, fun w => by rw [z] at w; exact absurd w (by decide)⟩
  · rw [tr_ft_up z l]
    rcases tr_ft_v (h := h) (q := q) R with v | v | v
    · exact absurd v z
    · exact ⟨fun _ => v, fun _ => by rw [v]; decide⟩
    · exact ⟨fun w => absurd v w, fun w => by rw [v] at w; exact absurd w (by decide)⟩
end
/-- the mask of the pages touched up to R says which pages an ABORT behind R touches -/
theorem tr_Tm_tc2 {h : Nat → tr_R} {R q g : Nat} {mk s : Int32} (k : (h (q + 1)).1 = 5) (pg : (h (q + 1)).2.2.1 = -1) (es : (h (q + 1)).2.1 = s) (hg : g < 32) (l : R ≤ q) (Tl : tr_Tl h R q) (eo : tr_op h s q = tr_op h s R) (T : tr_Tm h s (tr_op h s R) (tr_op h s R) R mk) : bt mk g = true ↔ tr_tc h (nI g) (q + 1) := by
  rw [T g hg, tr_tc_a k pg (by omega), es, eo]
  constructor
  · rintro ⟨r, a, _, b, c⟩
    exact ⟨r, a, by omega, c⟩
  · rintro ⟨r, a, b, c, d⟩
    refine ⟨r, a, a, ?_, c, d⟩
    by_cases w : r ≤ R
    · exact w
    · exact absurd ((Tl r (by omega) b).2.symm.trans d) (tr_m1ne (by omega))
/-- the loop's state: the slots below i are closed, w ABORTs are written -/
def tr_OI (P C S M Q R i w : Nat) (h0 h : Nat → tr_R) (cv sp pl al ob lk ls lp lc lv lb : Nat → Int32) : Prop :=
  (∀ q, q ≤ R → h q = h0 q) ∧ tr_wf P C S h (R + w) ∧ tr_Rm S M Q h (R + w) ∧ tr_Rg h Q (R + w) lk ls lp lc lv lb ∧ tr_Tl h R (R + w)
  ∧ tr_Ce P C (fun g c => tr_co h g c R) cv ∧ tr_Sp P h (R + w) sp ∧ tr_Ob S h (R + w) ob ∧ tr_No S h (R + w) Q ∧ tr_Z pl al
  ∧ (∀ s, s < S → (s < i → tr_op h (nI s) (R + w) = 0) ∧ (i ≤ s → tr_op h (nI s) (R + w) = tr_op h (nI s) R))
/-- one more ABORT -/
theorem tr_OI_a {P C S M Q R i w : Nat} {h0 h h' : Nat → tr_R} {cv sp pl al ob lk ls lp lc lv lb sp' pl' al' : Nat → Int32} {mk v : Int32} (hz : tr_Sz P C S M) (hi : i < S) (o : tr_op h (nI i) R ≠ 0) (a : tr_Ap h h' (R + w) (5, nI i, -1, -1, v)) (X : tr_OI P C S M Q R i w h0 h cv sp pl al ob lk ls lp lc lv lb) (hQ : Q ≤ R)
    (T : tr_Tm h (nI i) (tr_op h (nI i) R) (tr_op h (nI i) R) R mk) (c2 : ∀ g, g < P → (bt mk g = true → sp' g = nI (R + w + 1)) ∧ (bt mk g = false → sp' g = sp g))
    (hp : ∀ j, j < 32 → pl' j = pl j &&& (((1 : Int32) <<< (nI i &&& 31)) ^^^ (-1))) (ha : ∀ j, j < 32 → al' j = al j &&& (((1 : Int32) <<< (nI i &&& 31)) ^^^ (-1))) :
    tr_OI P C S M Q R (i + 1) (w + 1) h0 h' cv sp' pl' al' (upd ob i 0) (upd lk ((R + w + 1) % 96) 5) (upd ls ((R + w + 1) % 96) (nI i)) (upd lp ((R + w + 1) % 96) (-1)) (upd lc ((R + w + 1) % 96) (-1)) (upd lv ((R + w + 1) % 96) v) (upd lb ((R + w + 1) % 96) 0) := by
  obtain ⟨z1, z2, z3, z4, z5, z6, z7, z8⟩ := hz
  obtain ⟨e0, W, rm, rg, tl, ce, sp0, ob0, no, zz, op0⟩ := X
  have o1 := (op0 i hi).2 (Nat.le_refl i)
  have o2 : tr_op h (nI i) (R + w) ≠ 0 := by rw [o1]; exact o
  have ob1 := tr_Ap_ope a (Or.inr rfl)
  have oc1 := tr_Ap_oce (S := S) a rfl (Or.inr rfl) z6 hi o2
  have rmn := rm (R + w) (Nat.le_refl _)
  have k5 : (h' (R + w + 1)).1 = 5 := by rw [a.2]
  have pg : (h' (R + w + 1)).2.2.1 = -1 := by rw [a.2]
  have es : (h' (R + w + 1)).2.1 = nI i := by rw [a.2]
  have eR : ∀ q, q ≤ R → h' q = h q := fun q hq => a.1 q (by omega)
  have eoR : ∀ s, tr_op h' s R = tr_op h s R := fun s => tr_op_cg R eR
  have tl' : tr_Tl h' R (R + w + 1) := fun q x y => by
    by_cases e : q = R + w + 1
    · subst e; exact ⟨k5, pg⟩
    · rw [a.1 q (by omega)]; exact tl q x (by omega)
  have T' : tr_Tm h' (nI i) (tr_op h' (nI i) R) (tr_op h' (nI i) R) R mk := fun j hj => by
    rw [T j hj, eoR]
    constructor
    · rintro ⟨q, x1, x2, x3, x4⟩
      exact ⟨q, x1, x2, x3, by rw [eR q x3]; exact x4⟩
    · rintro ⟨q, x1, x2, x3, x4⟩
      exact ⟨q, x1, x2, x3, by rw [← eR q x3]; exact x4⟩
  have tt : ∀ g, g < P → (bt mk g = true ↔ tr_tc h' (nI g) (R + w + 1)) := fun g hg => tr_Tm_tc2 k5 pg es (by omega) (by omega) (fun q x y => tl' q x (by omega)) (by rw [eoR, tr_Ap_op a, o1]) T'
  have W' : tr_wf P C S h' (R + w + 1) := tr_Ap_wf a W (tr_Ap_oke a rfl hi (Or.inr rfl) rfl rfl o2)
  have rm' : tr_Rm S M Q h' (R + w + 1) := tr_Ap_Rm a rm (by omega) (by omega)
  have rg' := tr_Ap_Rg (w := 0) a rg (by omega) (fun z => absurd z (by decide))
  have no' : tr_No S h' (R + w + 1) Q := tr_Ap_No a rfl z6 hi (by omega) (Or.inl ob1) no
  have obb : tr_Ob S h' (R + w + 1) (upd ob i (nI 0)) := tr_Ap_Ob a rfl z6 hi ob0 ob1
  refine ⟨fun q hq => by rw [eR q hq]; exact e0 q hq, W', rm', rg', tl', fun g hg c hc => ?_, fun g hg => ?_, obb, no', fun j hj => ?_, fun s hs => ?_⟩
  · rw [ce g hg c hc]
    exact (tr_co_cg R eR).symm
  · by_cases b : bt mk g = true
    · rw [(c2 g hg).1 b]
      exact congrArg nI (tr_st_t ((tt g hg).mp b)).symm
    · rw [(c2 g hg).2 (tr_bf b), sp0 g hg, ← tr_st_cg (R + w) a.1]
      exact congrArg nI (tr_st_n (fun t => b ((tt g hg).mpr t))).symm
  · obtain ⟨y1, y2⟩ := zz j hj
    rw [hp j hj, ha j hj, y1, y2]
    exact ⟨Int32.zero_and, Int32.zero_and⟩
  · by_cases e : s = i
    · subst e
      exact ⟨fun _ => ob1, fun y => absurd y (by omega)⟩
    · have e1 := tr_Ap_opo a (s := nI s) (by show ¬ nI i = nI s; rw [nI_eq (by omega) (by omega)]; exact fun z => e z.symm)
      rw [show R + (w + 1) = R + w + 1 from rfl, e1, eoR]
      exact ⟨fun y => (op0 s hs).1 (by omega), fun y => (op0 s hs).2 (by omega)⟩
section
variable {k P C S M L A Q : Nat} {md ra rn re : Int32} {cv sp pl al ob lk ls lp lc lv lb bs bS bE bB bN bP bD kS kV yk yl yp yc yv zs zS zE zB zN zC : Nat → Int32}
/-- at the end of the loop both are LIVE again -/
theorem tr_open_end {R w : Nat} {h0 : Nat → tr_R} (hz : tr_Sz P C S M) (hQ : Q ≤ R) (X : tr_OI P C S M Q R S w h0 (tr_h yk yl yp yc yv) cv sp pl al ob lk ls lp lc lv lb) (B : ∃ eS eN eE rk : Nat → Nat, tr_Bk P C S h0 R bs bS bE bB bN bP bD kS kV zs zS zE zB zN zC eS eN eE rk) (nr : ∀ b, b < 6 → ¬ zs b = 1) : tr_Rel P C S M (R + w) R Q 0 (-1) (-1) cv sp pl al ob lk ls lp lc lv lb bs bS bE bB bN bP bD kS kV re yk yl yp yc yv zs zS zE zB zN zC := by
  have hz0 := hz
  obtain ⟨z1, z2, z3, z4, z5, z6, z7, z8⟩ := hz
  obtain ⟨e0, W, rm, rg, tl, ce, sp0, ob0, no, zz, op0⟩ := X
  have closed : ∀ s, s < S → tr_op (tr_h yk yl yp yc yv) (nI s) (R + w) = 0 := fun s hs => (op0 s hs).1 hs
  have lock : ∀ k : Int32, ∀ pl : Nat → Int32, (∀ i, i < 32 → pl i = 0) → tr_Lk P C (tr_h yk yl yp yc yv) (R + w) k pl := fun k pl hpl g hg c hc i hi => by
    rw [hpl _ (by omega), b_0]
    refine ⟨fun z => absurd z (by decide), fun ⟨q, h1, h2, _, _, _, h6⟩ => ?_⟩
    have f := (tr_ft_op h1 (R + w) h2 W).mp h6
    obtain ⟨s, hs, es⟩ := (W q h1 h2).1
    rw [es] at f
    exact absurd (closed s hs) f.1
  obtain ⟨eS, eN, eE, rk, B⟩ := B
  refine ⟨hz0, W, rm, rg, ⟨eS, eN, eE, rk, tr_Bk_cg e0 (by omega) B⟩, Or.inl ⟨rfl, nr⟩, Or.inl ⟨rfl, fun g hg c hc => ?_, sp0, ob0, lock 2 pl (fun i hi => (zz i hi).1), lock 3 al (fun i hi => (zz i hi).2), no, hQ, by omega⟩⟩
  rw [ce g hg c hc]
  exact (tr_fu_end (by omega) W (by omega) tl closed).symm
end
end
section
/-! open, both sides: the component's loop, the reference's carried along -/
section
variable {k P C S M L A Q : Nat} {md ra rn re : Int32} {cv sp pl al ob lk ls lp lc lv lb bs bS bE bB bN bP bD kS kV yk yl yp yc yv zs zS zE zB zN zC : Nat → Int32}
theorem tr_x_op44 {R : Nat} {h0 : Nat → tr_R} {post : Int32 → SX → Prop} {YT : (Int32 → SY → Prop) → Prop} (hz : tr_Sz P C S M) (hQ : Q ≤ R)
    (E : ∀ (w : Nat) (cv sp pl al ob lk ls lp lc lv lb yk yl yp yc yv : Nat → Int32), tr_OI P C S M Q R S w h0 (tr_h yk yl yp yc yv) cv sp pl al ob lk ls lp lc lv lb → (∀ pp : Int32 → SY → Prop, (∀ zs', (∀ b, b < 6 → tr_CU (nI R) zs zE zs' b) → pp (nI w) (nI P, nI C, nI S, nI M, 0, nI (R + w), nI R, nI Q, nI R, yk, yl, yp, yc, yv, zs', zS, zE, zB, zN, zC)) → YT pp) → post (nI w) (nI P, nI C, nI S, nI M, 0, nI (R + w), nI R, nI Q, -1, -1, cv, sp, pl, al, ob, lk, ls, lp, lc, lv, lb, bs, bS, bE, bB, bN, bP, bD, kS, kV)) :
    ∀ (n i w : Nat) (cv sp pl al ob lk ls lp lc lv lb yk yl yp yc yv : Nat → Int32), i ≤ S → S - i < n → tr_OI P C S M Q R i w h0 (tr_h yk yl yp yc yv) cv sp pl al ob lk ls lp lc lv lb → (∀ pp : Int32 → SY → Prop, (∀ zs', (∀ b, b < 6 → tr_CU (nI R) zs zE zs' b) → ∃ n, wY_open_25 pp n (nI i) (nI P) (nI C) (nI S) (nI M) 0 (nI (R + w)) (nI R) (nI Q) (nI R) yk yl yp yc yv zs' zS zE zB zN zC) → YT pp) → wX_open_44 post (nI R) n (nI w) (nI i) (nI P) (nI C) (nI S) (nI M) 0 (nI (R + w)) (nI R) (nI Q) (-1) (-1) cv sp pl al ob lk ls lp lc lv lb bs bS bE bB bN bP bD kS kV
  | 0, _, _, _, _, _, _, _, _, _, _, _, _, _, _, _, _, _, _ => fun _ l => absurd l (by omega)
  | n + 1, i, w, cv, sp, pl, al, ob, lk, ls, lp, lc, lv, lb, yk, yl, yp, yc, yv => fun li ln X Yk => by
    have X0 := X
    obtain ⟨e0, W, rm, rg, tl, ce, sp0, ob0, no, zz, op0⟩ := X
    have hz0 := hz
    obtain ⟨z1, z2, z3, z4, z5, z6, z7, z8⟩ := hz
    have rmn := rm (R + w) (Nat.le_refl _)
    by_cases ei : i = S
    · subst ei
      refine br_t (nI_le (Nat.le_refl i) (by omega)) (E w cv sp pl al ob lk ls lp lc lv lb yk yl yp yc yv X0 (fun pp z => Yk pp (fun zs' cu => ⟨1, br_t (nI_le (Nat.le_refl i) (by omega)) ?_⟩)))
      rw [pk_sub (show R ≤ R + w by omega), Nat.add_sub_cancel_left]
      exact z zs' cu
    · have i4 : i < S := by omega
      have hin : vp_in (nI i) 4 := vp_in_nI (by omega) (by decide)
      have lo := tr_op_le (h := (tr_h yk yl yp yc yv)) (s := nI i) R
      have o1 := (op0 i i4).2 (Nat.le_refl i)
      have R256 : R ≤ 256 := by omega
      refine br_f (nI_ge (by omega) (by omega)) ⟨hin, ?_⟩
      rw [nI_clamp (show i < 2 ^ 31 by omega), ob0 i i4, o1]
      by_cases o : tr_op (tr_h yk yl yp yc yv) (nI i) R = 0
      · refine br_t (by rw [o]; rfl) (nm_r (nI_1 i) (tr_x_op44 hz0 hQ E n (i + 1) w cv sp pl al ob lk ls lp lc lv lb yk yl yp yc yv (by omega) (by omega) ⟨e0, W, rm, rg, tl, ce, sp0, ob0, no, zz, fun s hs => ?_⟩ (fun pp z => Yk pp (fun zs' cu => ?_))))
        · by_cases e : s = i
          · subst e; exact ⟨fun _ => by rw [o1]; exact o, fun y => absurd y (by omega)⟩
          · exact ⟨fun y => (op0 s hs).1 (by omega), fun y => (op0 s hs).2 (by omega)⟩
        · obtain ⟨m, hm⟩ := z zs' cu
          exact ⟨m + 1, br_f (nI_ge i4 (by omega)) (tr_y_openAt R256 (br_t (by rw [o]; decide) (nm_r (nI_1 i) hm)))⟩
      · have nq := no i i4 (by rw [o1]; exact o)
        have oc1 := tr_oc_pos (h := (tr_h yk yl yp yc yv)) (n := R + w) (j := i) (by rw [o1]; exact o) S i4
        have W0 : tr_wf P C S (tr_h yk yl yp yc yv) R := fun r a b => W r a (by omega)
        refine br_f (nI_ne0 (by omega) (by omega)) ⟨hin, tr_x_touched (h := (tr_h yk yl yp yc yv)) (N := R) (nI_1 R) lo (by omega) (tr_HR1 rg W0 z2 (by omega) (by omega)) (fun mk T => tr_x_append (by omega) (tr_x_stampPages z2 (fun sp' c2 => tr_x_endT (by omega) (fun pl' al' hp ha => nm_r (nI_1 w) (nm_r (nI_1 i) ?_)))))⟩
        refine tr_x_op44 hz0 hQ E n (i + 1) (w + 1) cv sp' pl' al' (upd ob i 0) _ _ _ _ _ _ (upd yk (R + w + 1) 5) (upd yl (R + w + 1) (nI i)) (upd yp (R + w + 1) (-1)) (upd yc (R + w + 1) (-1)) (upd yv (R + w + 1) 0) (by omega) (by omega) (tr_OI_a hz0 i4 o tr_Ap_mk X0 hQ T c2 hp ha) (fun pp z => Yk pp (fun zs' cu => ?_))
        obtain ⟨m, hm⟩ := z zs' cu
        exact ⟨m + 1, br_f (nI_ge i4 (by omega)) (tr_y_openAt R256 (br_f (nI_nle (by omega) (by omega)) (tr_y_write (by omega) (nm_r (nI_1 i) hm))))⟩
theorem tr_open (R : tr_Rel P C S M L A Q md ra rn cv sp pl al ob lk ls lp lc lv lb bs bS bE bB bN bP bD kS kV re yk yl yp yc yv zs zS zE zB zN zC) : wpX_open (fun r u' => wpY_open (fun r' v' => r' = r ∧ i_Rel k u' v') (nI P, nI C, nI S, nI M, md, nI L, nI A, nI Q, re, yk, yl, yp, yc, yv, zs, zS, zE, zB, zN, zC)) (nI P, nI C, nI S, nI M, md, nI L, nI A, nI Q, ra, rn, cv, sp, pl, al, ob, lk, ls, lp, lc, lv, lb, bs, bS, bE, bB, bN, bP, bD, kS, kV) := by
  have I : i_Rel k (nI P, nI C, nI S, nI M, md, nI L, nI A, nI Q, ra, rn, cv, sp, pl, al, ob, lk, ls, lp, lc, lv, lb, bs, bS, bE, bB, bN, bP, bD, kS, kV) (nI P, nI C, nI S, nI M, md, nI L, nI A, nI Q, re, yk, yl, yp, yc, yv, zs, zS, zE, zB, zN, zC) := tr_mk R
  obtain ⟨hz, hwf, hr, hg, ⟨eS, eN, eE, rk, hb⟩, hn, hm⟩ := R
  have hL := (hr L (Nat.le_refl L)).1
  by_cases m2 : md = 2
  · subst m2
    rcases hm with ⟨z, _⟩ | ⟨z, _⟩ | ⟨_, rfl, eA, R, rfl, rfl, l1, l2, l3, l4, l5, l6, l7⟩
    · exact absurd z (by decide)
    · exact absurd z (by decide)
    · have nr : ∀ b, b < 6 → ¬ zs b = 1 := by
        rcases hn with ⟨_, z⟩ | ⟨r, hr6, e, _⟩
        · exact z
        · exact absurd e (tr_m1ne (by omega))
      refine br_t rfl (tr_x_eba rfl (fun bs' bS' bE' bB' bN' bP' bD' ea => ⟨S + 1, ?_⟩))
      refine tr_x_op44 (h0 := (tr_h yk yl yp yc yv)) (zs := zs) (zS := zS) (zE := zE) (zB := zB) (zN := zN) (zC := zC) (YT := fun pp => wpY_open pp (nI P, nI C, nI S, nI M, 2, nI L, nI A, nI Q, nI R, yk, yl, yp, yc, yv, zs, zS, zE, zB, zN, zC)) hz l6 ?_ (S + 1) 0 0 cv sp pl al ob lk ls lp lc lv lb yk yl yp yc yv (Nat.zero_le S) (Nat.lt_succ_of_le (Nat.sub_le S 0)) ⟨fun _ _ => rfl, fun q a b => hwf q a (by omega), fun p hp => hr p (by omega), fun q a b => hg q a (by omega), fun q a b => absurd a (by omega), l1, l2, l3, l4, l5, fun s _ => ⟨fun y => absurd y (Nat.not_lt_zero s), fun _ => rfl⟩⟩ ?_
      · intro w cv sp pl al ob lk ls lp lc lv lb yk1 yl1 yp1 yc1 yv1 X Y
        refine Y _ (fun zs' cu => ⟨rfl, ?_⟩)
        obtain ⟨b1, b2⟩ := tr_Bk_cut (R := R) (by omega) (by omega) hb nr (fun _ _ => Or.inl rfl) ea cu
        exact tr_mk (tr_open_end hz l6 X ⟨eS, eN, eE, rk, b1⟩ b2)
      · intro pp z
        exact br_t rfl (tr_y_cut (fun zs' cu => z zs' cu))
  · exact br_f m2 (br_f m2 ⟨rfl, I⟩)
end
end
section
/-! the constructors, and what is owed -/
theorem tr_clamp (v : Int32) {lo hi : Nat} (l : lo ≤ hi) (hh : hi < 2 ^ 31) : ∃ n, lo ≤ n ∧ n ≤ hi ∧ ∀ A : Int32 → Prop, A (nI n) → ((nI lo ≤ v → ((v ≤ nI hi → A v) ∧ (¬ v ≤ nI hi → A (nI hi)))) ∧ (¬ nI lo ≤ v → A (nI lo))) := by
  by_cases a : nI lo ≤ v
  · by_cases b : v ≤ nI hi
    · have v0 : ¬ v < 0 := fun z => Int32.lt_irrefl (Int32.lt_of_le_of_lt (Int32.le_trans (nI_pos' (show lo < 2 ^ 31 by omega)) a) z)
      obtain ⟨j, hj, rfl⟩ := nI_of v0
      exact ⟨j, (nI_leI (by omega) hj).mp a, (nI_leI hj hh).mp b, fun A h => br_t a (br_t b h)⟩
    · exact ⟨hi, l, Nat.le_refl hi, fun A h => br_t a (br_f b h)⟩
  · exact ⟨lo, Nat.le_refl lo, l, fun A h => br_f a h⟩
section
variable {fp fc fs fm md la ar pr ra rn : Int32} {cv sp pl al ob lk ls lp lc lv lb bs bS bE bB bN bP bD kS kV : Nat → Int32} {post : Int32 → Prop}
theorem tr_x_clamp {v : Int32} {lo hi n : Nat} (H : ∀ A : Int32 → Prop, A (nI n) → ((nI lo ≤ v → ((v ≤ nI hi → A v) ∧ (¬ v ≤ nI hi → A (nI hi)))) ∧ (¬ nI lo ≤ v → A (nI lo)))) (K : post (nI n)) : wpX_clamp post (fp, fc, fs, fm, md, la, ar, pr, ra, rn, cv, sp, pl, al, ob, lk, ls, lp, lc, lv, lb, bs, bS, bE, bB, bN, bP, bD, kS, kV) v (nI lo) (nI hi) := H post K
end
theorem tr_oc_0 {h : Nat → tr_R} : ∀ S, tr_oc h 0 S = 0
  | 0 => rfl
  | S + 1 => by
    have e : tr_if (tr_op h (nI S) 0 = 0) 0 1 = 0 := tr_ift rfl
    show tr_oc h 0 S + tr_if (tr_op h (nI S) 0 = 0) 0 1 = 0
    rw [tr_oc_0 S, e]
theorem tr_Rel_0 {P C S M : Nat} (hz : tr_Sz P C S M) : tr_Rel P C S M 0 0 0 0 (-1) (-1) (fun _ => 0) (fun _ => 0) (fun _ => 0) (fun _ => 0) (fun _ => 0) (fun _ => 0) (fun _ => 0) (fun _ => 0) (fun _ => 0) (fun _ => 0) (fun _ => 0) (fun _ => 0) (fun _ => 0) (fun _ => 0) (fun _ => 0) (fun _ => 0) (fun _ => 0) (fun _ => 0) (fun _ => 0) (fun _ => 0) 0 (fun _ => 0) (fun _ => 0) (fun _ => 0) (fun _ => 0) (fun _ => 0) (fun _ => 0) (fun _ => 0) (fun _ => 0) (fun _ => 0) (fun _ => 0) (fun _ => 0) := by
  refine ⟨hz, fun q a b => absurd a (by omega), fun p hp => ?_, fun q a b => absurd a (by omega), ⟨fun _ => 0, fun _ => 0, fun _ => 0, fun _ => 0, fun b _ => ⟨rfl, Or.inl rfl, fun z => absurd rfl z⟩⟩, Or.inl ⟨rfl, fun b _ z => absurd z (show ¬ (0 : Int32) = 1 by decide)⟩, Or.inl ⟨rfl, fun g _ c _ => rfl, fun g _ => rfl, fun s _ => rfl, fun g _ c _ i _ => ?_, fun g _ c _ i _ => ?_, fun s _ o => absurd rfl o, Nat.le_refl 0, Nat.le_refl 0⟩⟩
  · obtain ⟨z1, z2, z3, z4, z5, z6, z7, z8⟩ := hz
    obtain rfl : p = 0 := by omega
    rw [tr_oc_0]
    omega
  · rw [b_0]
    exact ⟨fun z => absurd z (by decide), fun ⟨q, h1, h2, _⟩ => absurd h1 (by omega)⟩
  · rw [b_0]
    exact ⟨fun z => absurd z (by decide), fun ⟨q, h1, h2, _⟩ => absurd h1 (by omega)⟩
theorem i_vc0 (k0 : Int32) (k1 : Int32) (k2 : Int32) (k3 : Int32) : wpX_init (fun u => wpY_init (fun v => i_Rel 4 u v) k0 k1 k2 k3) k0 k1 k2 k3 := by
  obtain ⟨P, p1, p2, hP⟩ := tr_clamp k0 (lo := 2) (hi := 8) (by decide) (by decide)
  obtain ⟨C, c1, c2, hC⟩ := tr_clamp k1 (lo := 1) (hi := 4) (by decide) (by decide)
  obtain ⟨S, s1, s2, hS⟩ := tr_clamp k2 (lo := 1) (hi := 4) (by decide) (by decide)
  obtain ⟨M, m1, m2, hM⟩ := tr_clamp k3 (lo := 16) (hi := 96) (by decide) (by decide)
  unfold wpX_init
  refine tr_x_clamp hP ?_
  refine tr_x_clamp hC ?_
  refine tr_x_clamp hS ?_
  refine tr_x_clamp hM ?_
  show wpY_init (fun v => i_Rel 4 (nI P, nI C, nI S, nI M, 0, 0, 0, 0, (-1), (-1), (fun _ => 0), (fun _ => 0), (fun _ => 0), (fun _ => 0), (fun _ => 0), (fun _ => 0), (fun _ => 0), (fun _ => 0), (fun _ => 0), (fun _ => 0), (fun _ => 0), (fun _ => 0), (fun _ => 0), (fun _ => 0), (fun _ => 0), (fun _ => 0), (fun _ => 0), (fun _ => 0), (fun _ => 0), (fun _ => 0)) v) k0 k1 k2 k3
  refine hP (fun z => wY_init_119 (fun v => i_Rel 4 (nI P, nI C, nI S, nI M, 0, 0, 0, 0, (-1), (-1), (fun _ => 0), (fun _ => 0), (fun _ => 0), (fun _ => 0), (fun _ => 0), (fun _ => 0), (fun _ => 0), (fun _ => 0), (fun _ => 0), (fun _ => 0), (fun _ => 0), (fun _ => 0), (fun _ => 0), (fun _ => 0), (fun _ => 0), (fun _ => 0), (fun _ => 0), (fun _ => 0), (fun _ => 0), (fun _ => 0)) v) k1 k2 k3 z 0 0 0 0 0 0 0 0 0 (fun _ => 0) (fun _ => 0) (fun _ => 0) (fun _ => 0) (fun _ => 0) (fun _ => 0) (fun _ => 0) (fun _ => 0) (fun _ => 0) (fun _ => 0) (fun _ => 0)) ?_
  refine hC (fun z => wY_init_142 (fun v => i_Rel 4 (nI P, nI C, nI S, nI M, 0, 0, 0, 0, (-1), (-1), (fun _ => 0), (fun _ => 0), (fun _ => 0), (fun _ => 0), (fun _ => 0), (fun _ => 0), (fun _ => 0), (fun _ => 0), (fun _ => 0), (fun _ => 0), (fun _ => 0), (fun _ => 0), (fun _ => 0), (fun _ => 0), (fun _ => 0), (fun _ => 0), (fun _ => 0), (fun _ => 0), (fun _ => 0), (fun _ => 0)) v) k2 k3 z (nI P) 0 0 0 0 0 0 0 0 (fun _ => 0) (fun _ => 0) (fun _ => 0) (fun _ => 0) (fun _ => 0) (fun _ => 0) (fun _ => 0) (fun _ => 0) (fun _ => 0) (fun _ => 0) (fun _ => 0)) ?_
  refine hS (fun z => wY_init_165 (fun v => i_Rel 4 (nI P, nI C, nI S, nI M, 0, 0, 0, 0, (-1), (-1), (fun _ => 0), (fun _ => 0), (fun _ => 0), (fun _ => 0), (fun _ => 0), (fun _ => 0), (fun _ => 0), (fun _ => 0), (fun _ => 0), (fun _ => 0), (fun _ => 0), (fun _ => 0), (fun _ => 0), (fun _ => 0), (fun _ => 0), (fun _ => 0), (fun _ => 0), (fun _ => 0), (fun _ => 0), (fun _ => 0)) v) k3 z (nI P) (nI C) 0 0 0 0 0 0 0 (fun _ => 0) (fun _ => 0) (fun _ => 0) (fun _ => 0) (fun _ => 0) (fun _ => 0) (fun _ => 0) (fun _ => 0) (fun _ => 0) (fun _ => 0) (fun _ => 0)) ?_
  refine hM (fun z => (fun v => i_Rel 4 (nI P, nI C, nI S, nI M, 0, 0, 0, 0, (-1), (-1), (fun _ => 0), (fun _ => 0), (fun _ => 0), (fun _ => 0), (fun _ => 0), (fun _ => 0), (fun _ => 0), (fun _ => 0), (fun _ => 0), (fun _ => 0), (fun _ => 0), (fun _ => 0), (fun _ => 0), (fun _ => 0), (fun _ => 0), (fun _ => 0), (fun _ => 0), (fun _ => 0), (fun _ => 0), (fun _ => 0)) v) (nI P, nI C, nI S, z, 0, 0, 0, 0, 0, (fun _ => 0), (fun _ => 0), (fun _ => 0), (fun _ => 0), (fun _ => 0), (fun _ => 0), (fun _ => 0), (fun _ => 0), (fun _ => 0), (fun _ => 0), (fun _ => 0))) ?_
  exact tr_mk (tr_Rel_0 ⟨p1, p2, c1, c2, s1, s2, m1, m2⟩)
section
variable {k P C S M L A Q : Nat} {md ra rn re : Int32} {cv sp pl al ob lk ls lp lc lv lb bs bS bE bB bN bP bD kS kV yk yl yp yc yv zs zS zE zB zN zC : Nat → Int32}
theorem tr_put (R : tr_Rel P C S M L A Q md ra rn cv sp pl al ob lk ls lp lc lv lb bs bS bE bB bN bP bD kS kV re yk yl yp yc yv zs zS zE zB zN zC) (v1 v2 v3 v4 : Int32) : wpX_put (fun r u' => wpY_put (fun r' v' => r' = r ∧ i_Rel k u' v') (nI P, nI C, nI S, nI M, md, nI L, nI A, nI Q, re, yk, yl, yp, yc, yv, zs, zS, zE, zB, zN, zC) v1 v2 v3 v4) (nI P, nI C, nI S, nI M, md, nI L, nI A, nI Q, ra, rn, cv, sp, pl, al, ob, lk, ls, lp, lc, lv, lb, bs, bS, bE, bB, bN, bP, bD, kS, kV) v1 v2 v3 v4 := by
  unfold wpX_put wpY_put
  exact tr_change (k := k) R (Or.inl rfl : (2 : Int32) = 2 ∨ (2 : Int32) = 3) v1 v2 v3 v4
theorem tr_add (R : tr_Rel P C S M L A Q md ra rn cv sp pl al ob lk ls lp lc lv lb bs bS bE bB bN bP bD kS kV re yk yl yp yc yv zs zS zE zB zN zC) (v1 v2 v3 v4 : Int32) : wpX_add (fun r u' => wpY_add (fun r' v' => r' = r ∧ i_Rel k u' v') (nI P, nI C, nI S, nI M, md, nI L, nI A, nI Q, re, yk, yl, yp, yc, yv, zs, zS, zE, zB, zN, zC) v1 v2 v3 v4) (nI P, nI C, nI S, nI M, md, nI L, nI A, nI Q, ra, rn, cv, sp, pl, al, ob, lk, ls, lp, lc, lv, lb, bs, bS, bE, bB, bN, bP, bD, kS, kV) v1 v2 v3 v4 := by
  unfold wpX_add wpY_add
  exact tr_change (k := k) R (Or.inr rfl : (3 : Int32) = 2 ∨ (3 : Int32) = 3) v1 v2 v3 v4
end
theorem i_vc_begin {k : Nat} {u : SX} {v : SY} (I : i_Rel k u v) (hk : k + 5 ≤ 2564) (v1 : Int32) : wpX_begin (fun r u' => wpY_begin (fun r' v' => r' = r ∧ i_Rel (k + 5) u' v') v v1) u v1 := by
  refine tr_el (k := k) (Pr := fun u v => wpX_begin (fun r u' => wpY_begin (fun r' v' => r' = r ∧ i_Rel (k + 5) u' v') v v1) u v1) ?_ u v I
  intro P C S M L A Q md ra rn cv sp pl al ob lk ls lp lc lv lb bs bS bE bB bN bP bD kS kV re yk yl yp yc yv zs zS zE zB zN zC R
  exact tr_begin R v1
theorem i_vc_put {k : Nat} {u : SX} {v : SY} (I : i_Rel k u v) (hk : k + 5 ≤ 2564) (v1 : Int32) (v2 : Int32) (v3 : Int32) (v4 : Int32) : wpX_put (fun r u' => wpY_put (fun r' v' => r' = r ∧ i_Rel (k + 5) u' v') v v1 v2 v3 v4) u v1 v2 v3 v4 := by
  refine tr_el (k := k) (Pr := fun u v => wpX_put (fun r u' => wpY_put (fun r' v' => r' = r ∧ i_Rel (k + 5) u' v') v v1 v2 v3 v4) u v1 v2 v3 v4) ?_ u v I
  intro P C S M L A Q md ra rn cv sp pl al ob lk ls lp lc lv lb bs bS bE bB bN bP bD kS kV re yk yl yp yc yv zs zS zE zB zN zC R
  exact tr_put R v1 v2 v3 v4
theorem i_vc_add {k : Nat} {u : SX} {v : SY} (I : i_Rel k u v) (hk : k + 5 ≤ 2564) (v1 : Int32) (v2 : Int32) (v3 : Int32) (v4 : Int32) : wpX_add (fun r u' => wpY_add (fun r' v' => r' = r ∧ i_Rel (k + 5) u' v') v v1 v2 v3 v4) u v1 v2 v3 v4 := by
  refine tr_el (k := k) (Pr := fun u v => wpX_add (fun r u' => wpY_add (fun r' v' => r' = r ∧ i_Rel (k + 5) u' v') v v1 v2 v3 v4) u v1 v2 v3 v4) ?_ u v I
  intro P C S M L A Q md ra rn cv sp pl al ob lk ls lp lc lv lb bs bS bE bB bN bP bD kS kV re yk yl yp yc yv zs zS zE zB zN zC R
  exact tr_add R v1 v2 v3 v4
theorem i_vc_commit {k : Nat} {u : SX} {v : SY} (I : i_Rel k u v) (hk : k + 5 ≤ 2564) (v1 : Int32) : wpX_commit (fun r u' => wpY_commit (fun r' v' => r' = r ∧ i_Rel (k + 5) u' v') v v1) u v1 := by
  refine tr_el (k := k) (Pr := fun u v => wpX_commit (fun r u' => wpY_commit (fun r' v' => r' = r ∧ i_Rel (k + 5) u' v') v v1) u v1) ?_ u v I
  intro P C S M L A Q md ra rn cv sp pl al ob lk ls lp lc lv lb bs bS bE bB bN bP bD kS kV re yk yl yp yc yv zs zS zE zB zN zC R
  exact tr_commit R v1
theorem i_vc_abort {k : Nat} {u : SX} {v : SY} (I : i_Rel k u v) (hk : k + 5 ≤ 2564) (v1 : Int32) : wpX_abort (fun r u' => wpY_abort (fun r' v' => r' = r ∧ i_Rel (k + 5) u' v') v v1) u v1 := by
  refine tr_el (k := k) (Pr := fun u v => wpX_abort (fun r u' => wpY_abort (fun r' v' => r' = r ∧ i_Rel (k + 5) u' v') v v1) u v1) ?_ u v I
  intro P C S M L A Q md ra rn cv sp pl al ob lk ls lp lc lv lb bs bS bE bB bN bP bD kS kV re yk yl yp yc yv zs zS zE zB zN zC R
  exact tr_abort R v1
theorem i_vc_startBackup {k : Nat} {u : SX} {v : SY} (I : i_Rel k u v) (hk : k + 5 ≤ 2564) (v1 : Int32) (v2 : Int32) : wpX_startBackup (fun r u' => wpY_startBackup (fun r' v' => r' = r ∧ i_Rel (k + 5) u' v') v v1 v2) u v1 v2 := by
  refine tr_el (k := k) (Pr := fun u v => wpX_startBackup (fun r u' => wpY_startBackup (fun r' v' => r' = r ∧ i_Rel (k + 5) u' v') v v1 v2) u v1 v2) ?_ u v I
  intro P C S M L A Q md ra rn cv sp pl al ob lk ls lp lc lv lb bs bS bE bB bN bP bD kS kV re yk yl yp yc yv zs zS zE zB zN zC R
  exact tr_startBackup R v1 v2
theorem i_vc_copyStep {k : Nat} {u : SX} {v : SY} (I : i_Rel k u v) (hk : k + 5 ≤ 2564) : wpX_copyStep (fun r u' => wpY_copyStep (fun r' v' => r' = r ∧ i_Rel (k + 5) u' v') v) u := by
  refine tr_el (k := k) (Pr := fun u v => wpX_copyStep (fun r u' => wpY_copyStep (fun r' v' => r' = r ∧ i_Rel (k + 5) u' v') v) u) ?_ u v I
  intro P C S M L A Q md ra rn cv sp pl al ob lk ls lp lc lv lb bs bS bE bB bN bP bD kS kV re yk yl yp yc yv zs zS zE zB zN zC R
  exact tr_copyStep R 
theorem i_vc_drop {k : Nat} {u : SX} {v : SY} (I : i_Rel k u v) (hk : k + 5 ≤ 2564) (v1 : Int32) : wpX_drop (fun r u' => wpY_drop (fun r' v' => r' = r ∧ i_Rel (k + 5) u' v') v v1) u v1 := by
  refine tr_el (k := k) (Pr := fun u v => wpX_drop (fun r u' => wpY_drop (fun r' v' => r' = r ∧ i_Rel (k + 5) u' v') v v1) u v1) ?_ u v I
  intro P C S M L A Q md ra rn cv sp pl al ob lk ls lp lc lv lb bs bS bE bB bN bP bD kS kV re yk yl yp yc yv zs zS zE zB zN zC R
  exact tr_drop R v1
theorem i_vc_ship {k : Nat} {u : SX} {v : SY} (I : i_Rel k u v) (hk : k + 5 ≤ 2564) (v1 : Int32) : wpX_ship (fun r u' => wpY_ship (fun r' v' => r' = r ∧ i_Rel (k + 5) u' v') v (lw_bz v1)) u (lw_bz v1) := by
  refine tr_el (k := k) (Pr := fun u v => wpX_ship (fun r u' => wpY_ship (fun r' v' => r' = r ∧ i_Rel (k + 5) u' v') v (lw_bz v1)) u (lw_bz v1)) ?_ u v I
  intro P C S M L A Q md ra rn cv sp pl al ob lk ls lp lc lv lb bs bS bE bB bN bP bD kS kV re yk yl yp yc yv zs zS zE zB zN zC R
  exact tr_ship R (lw_bz v1)
theorem i_vc_prune {k : Nat} {u : SX} {v : SY} (I : i_Rel k u v) (hk : k + 5 ≤ 2564) (v1 : Int32) : wpX_prune (fun r u' => wpY_prune (fun r' v' => r' = r ∧ i_Rel (k + 5) u' v') v v1) u v1 := by
  refine tr_el (k := k) (Pr := fun u v => wpX_prune (fun r u' => wpY_prune (fun r' v' => r' = r ∧ i_Rel (k + 5) u' v') v v1) u v1) ?_ u v I
  intro P C S M L A Q md ra rn cv sp pl al ob lk ls lp lc lv lb bs bS bE bB bN bP bD kS kV re yk yl yp yc yv zs zS zE zB zN zC R
  exact tr_prune R v1
theorem i_vc_loseMedia {k : Nat} {u : SX} {v : SY} (I : i_Rel k u v) (hk : k + 5 ≤ 2564) : wpX_loseMedia (fun r u' => wpY_loseMedia (fun r' v' => r' = r ∧ i_Rel (k + 5) u' v') v) u := by
  refine tr_el (k := k) (Pr := fun u v => wpX_loseMedia (fun r u' => wpY_loseMedia (fun r' v' => r' = r ∧ i_Rel (k + 5) u' v') v) u) ?_ u v I
  intro P C S M L A Q md ra rn cv sp pl al ob lk ls lp lc lv lb bs bS bE bB bN bP bD kS kV re yk yl yp yc yv zs zS zE zB zN zC R
  exact tr_loseMedia R 
theorem i_vc_restore {k : Nat} {u : SX} {v : SY} (I : i_Rel k u v) (hk : k + 5 ≤ 2564) (v1 : Int32) (v2 : Int32) : wpX_restore (fun r u' => wpY_restore (fun r' v' => r' = r ∧ i_Rel (k + 5) u' v') v v1 v2) u v1 v2 := by
  refine tr_el (k := k) (Pr := fun u v => wpX_restore (fun r u' => wpY_restore (fun r' v' => r' = r ∧ i_Rel (k + 5) u' v') v v1 v2) u v1 v2) ?_ u v I
  intro P C S M L A Q md ra rn cv sp pl al ob lk ls lp lc lv lb bs bS bE bB bN bP bD kS kV re yk yl yp yc yv zs zS zE zB zN zC R
  exact tr_restore R v1 v2
theorem i_vc_open {k : Nat} {u : SX} {v : SY} (I : i_Rel k u v) (hk : k + 5 ≤ 2564) : wpX_open (fun r u' => wpY_open (fun r' v' => r' = r ∧ i_Rel (k + 5) u' v') v) u := by
  refine tr_el (k := k) (Pr := fun u v => wpX_open (fun r u' => wpY_open (fun r' v' => r' = r ∧ i_Rel (k + 5) u' v') v) u) ?_ u v I
  intro P C S M L A Q md ra rn cv sp pl al ob lk ls lp lc lv lb bs bS bE bB bN bP bD kS kV re yk yl yp yc yv zs zS zE zB zN zC R
  exact tr_open R 
theorem i_vc_status {k : Nat} {u : SX} {v : SY} (I : i_Rel k u v) (hk : k + 5 ≤ 2564) (v1 : Int32) : wpX_status (fun r => wpY_status (fun r' => r' = r ∧ i_Rel (k + 5) u v) v v1) u v1 := by
  refine tr_el (k := k) (Pr := fun u v => wpX_status (fun r => wpY_status (fun r' => r' = r ∧ i_Rel (k + 5) u v) v v1) u v1) ?_ u v I
  intro P C S M L A Q md ra rn cv sp pl al ob lk ls lp lc lv lb bs bS bE bB bN bP bD kS kV re yk yl yp yc yv zs zS zE zB zN zC R
  exact tr_status R v1
theorem i_vc_value {k : Nat} {u : SX} {v : SY} (I : i_Rel k u v) (hk : k + 5 ≤ 2564) (v1 : Int32) (v2 : Int32) : wpX_value (fun r => wpY_value (fun r' => r' = r ∧ i_Rel (k + 5) u v) v v1 v2) u v1 v2 := by
  refine tr_el (k := k) (Pr := fun u v => wpX_value (fun r => wpY_value (fun r' => r' = r ∧ i_Rel (k + 5) u v) v v1 v2) u v1 v2) ?_ u v I
  intro P C S M L A Q md ra rn cv sp pl al ob lk ls lp lc lv lb bs bS bE bB bN bP bD kS kV re yk yl yp yc yv zs zS zE zB zN zC R
  exact tr_value R v1 v2
theorem i_vc_committedValue {k : Nat} {u : SX} {v : SY} (I : i_Rel k u v) (hk : k + 5 ≤ 2564) (v1 : Int32) (v2 : Int32) : wpX_committedValue (fun r => wpY_committedValue (fun r' => r' = r ∧ i_Rel (k + 5) u v) v v1 v2) u v1 v2 := by
  refine tr_el (k := k) (Pr := fun u v => wpX_committedValue (fun r => wpY_committedValue (fun r' => r' = r ∧ i_Rel (k + 5) u v) v v1 v2) u v1 v2) ?_ u v I
  intro P C S M L A Q md ra rn cv sp pl al ob lk ls lp lc lv lb bs bS bE bB bN bP bD kS kV re yk yl yp yc yv zs zS zE zB zN zC R
  exact tr_committedValue R v1 v2
theorem i_vc_pageStamp {k : Nat} {u : SX} {v : SY} (I : i_Rel k u v) (hk : k + 5 ≤ 2564) (v1 : Int32) : wpX_pageStamp (fun r => wpY_pageStamp (fun r' => r' = r ∧ i_Rel (k + 5) u v) v v1) u v1 := by
  refine tr_el (k := k) (Pr := fun u v => wpX_pageStamp (fun r => wpY_pageStamp (fun r' => r' = r ∧ i_Rel (k + 5) u v) v v1) u v1) ?_ u v I
  intro P C S M L A Q md ra rn cv sp pl al ob lk ls lp lc lv lb bs bS bE bB bN bP bD kS kV re yk yl yp yc yv zs zS zE zB zN zC R
  exact tr_pageStamp R v1
theorem i_vc_openSince {k : Nat} {u : SX} {v : SY} (I : i_Rel k u v) (hk : k + 5 ≤ 2564) (v1 : Int32) : wpX_openSince (fun r => wpY_openSince (fun r' => r' = r ∧ i_Rel (k + 5) u v) v v1) u v1 := by
  refine tr_el (k := k) (Pr := fun u v => wpX_openSince (fun r => wpY_openSince (fun r' => r' = r ∧ i_Rel (k + 5) u v) v v1) u v1) ?_ u v I
  intro P C S M L A Q md ra rn cv sp pl al ob lk ls lp lc lv lb bs bS bE bB bN bP bD kS kV re yk yl yp yc yv zs zS zE zB zN zC R
  exact tr_openSince R v1
theorem i_vc_recordField {k : Nat} {u : SX} {v : SY} (I : i_Rel k u v) (hk : k + 5 ≤ 2564) (v1 : Int32) (v2 : Int32) : wpX_recordField (fun r => wpY_recordField (fun r' => r' = r ∧ i_Rel (k + 5) u v) v v1 v2) u v1 v2 := by
  refine tr_el (k := k) (Pr := fun u v => wpX_recordField (fun r => wpY_recordField (fun r' => r' = r ∧ i_Rel (k + 5) u v) v v1 v2) u v1 v2) ?_ u v I
  intro P C S M L A Q md ra rn cv sp pl al ob lk ls lp lc lv lb bs bS bE bB bN bP bD kS kV re yk yl yp yc yv zs zS zE zB zN zC R
  exact tr_recordField R v1 v2
theorem i_vc_backupField {k : Nat} {u : SX} {v : SY} (I : i_Rel k u v) (hk : k + 5 ≤ 2564) (v1 : Int32) (v2 : Int32) : wpX_backupField (fun r => wpY_backupField (fun r' => r' = r ∧ i_Rel (k + 5) u v) v v1 v2) u v1 v2 := by
  refine tr_el (k := k) (Pr := fun u v => wpX_backupField (fun r => wpY_backupField (fun r' => r' = r ∧ i_Rel (k + 5) u v) v v1 v2) u v1 v2) ?_ u v I
  intro P C S M L A Q md ra rn cv sp pl al ob lk ls lp lc lv lb bs bS bE bB bN bP bD kS kV re yk yl yp yc yv zs zS zE zB zN zC R
  exact tr_backupField R v1 v2
theorem i_vc_copyStamp {k : Nat} {u : SX} {v : SY} (I : i_Rel k u v) (hk : k + 5 ≤ 2564) (v1 : Int32) (v2 : Int32) : wpX_copyStamp (fun r => wpY_copyStamp (fun r' => r' = r ∧ i_Rel (k + 5) u v) v v1 v2) u v1 v2 := by
  refine tr_el (k := k) (Pr := fun u v => wpX_copyStamp (fun r => wpY_copyStamp (fun r' => r' = r ∧ i_Rel (k + 5) u v) v v1 v2) u v1 v2) ?_ u v I
  intro P C S M L A Q md ra rn cv sp pl al ob lk ls lp lc lv lb bs bS bE bB bN bP bD kS kV re yk yl yp yc yv zs zS zE zB zN zC R
  exact tr_copyStamp R v1 v2
theorem i_vc_copyValue {k : Nat} {u : SX} {v : SY} (I : i_Rel k u v) (hk : k + 5 ≤ 2564) (v1 : Int32) (v2 : Int32) (v3 : Int32) : wpX_copyValue (fun r => wpY_copyValue (fun r' => r' = r ∧ i_Rel (k + 5) u v) v v1 v2 v3) u v1 v2 v3 := by
  refine tr_el (k := k) (Pr := fun u v => wpX_copyValue (fun r => wpY_copyValue (fun r' => r' = r ∧ i_Rel (k + 5) u v) v v1 v2 v3) u v1 v2 v3) ?_ u v I
  intro P C S M L A Q md ra rn cv sp pl al ob lk ls lp lc lv lb bs bS bE bB bN bP bD kS kV re yk yl yp yc yv zs zS zE zB zN zC R
  exact tr_copyValue R v1 v2 v3
end
