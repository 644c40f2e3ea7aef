section
/-! rows taken from the rows to paste (PURE-ROWS, BITS): a starting text -/
theorem pk_us {f : Nat → Int32} {k : Nat} {x : Int32} : upd f k x k = x := if_pos rfl
theorem pk_un {f : Nat → Int32} {k j : Nat} {x : Int32} (h : j ≠ k) : upd f k x j = f j := if_neg h
theorem pk_sub {a b : Nat} (h : b ≤ a) : nI a - nI b = nI (a - b) := by
  obtain ⟨c, rfl⟩ : ∃ c, a = c + b := ⟨a - b, by omega⟩
  rw [← nI_add, Int32.add_sub_cancel, Nat.add_sub_cancel]
theorem pk_sub_toInt {a b : Nat} (ha : a < 2 ^ 30) (hb : b < 2 ^ 30) : (nI a - nI b).toInt = (a : Int) - b := by
  rw [Int32.toInt_sub, nI_toInt (by omega), nI_toInt (by omega)]
  exact Int.bmod_eq_of_le (by omega) (by omega)
theorem pk_sneg {a b : Nat} (hb : b < 2 ^ 30) (h : a < b) : nI a - nI b < 0 := by
  rw [Int32.lt_iff_toInt_lt, pk_sub_toInt (by omega) hb, show (0 : Int32).toInt = 0 from by decide]
  omega
theorem pk_ix (x : Int32) {n : Nat} (hn : n < 2 ^ 31) : x < 0 ∨ nI n ≤ x ∨ ∃ j : Nat, j < n ∧ x = nI j := by
  by_cases h : x < 0
  · exact Or.inl h
  · obtain ⟨j, hj, rfl⟩ := nI_of h
    by_cases h2 : j < n
    · exact Or.inr (Or.inr ⟨j, h2, rfl⟩)
    · exact Or.inr (Or.inl (nI_le (by omega) hj))
theorem pk_le {x y : Int32} {A B : Prop} (a b : Nat) (f : a ≤ b → A) (g : b < a → B) (hx : x = nI a := by rfl) (hy : y = nI b := by rfl) (ha : a < 2 ^ 31 := by omega) (hb : b < 2 ^ 31 := by omega) : (x ≤ y → A) ∧ (¬ x ≤ y → B) := by
  subst hx hy
  rw [nI_leI ha hb]
  exact ⟨f, fun z => g (by omega)⟩
theorem pk_lt {x y : Int32} {A B : Prop} (a b : Nat) (f : a < b → A) (g : b ≤ a → B) (hx : x = nI a := by rfl) (hy : y = nI b := by rfl) (ha : a < 2 ^ 31 := by omega) (hb : b < 2 ^ 31 := by omega) : (x < y → A) ∧ (¬ x < y → B) := by
  subst hx hy
  rw [nI_ltI ha hb]
  exact ⟨f, fun z => g (by omega)⟩
theorem pk_eq {x y : Int32} {A B : Prop} (a b : Nat) (f : a = b → A) (g : a ≠ b → B) (hx : x = nI a := by rfl) (hy : y = nI b := by rfl) (ha : a < 2 ^ 31 := by omega) (hb : b < 2 ^ 31 := by omega) : (x = y → A) ∧ (¬ x = y → B) := by
  subst hx hy
  rw [nI_eq ha hb]
  exact ⟨f, g⟩
theorem pk_in {x : Int32} (n N : Nat) (h : n < N) (hx : x = nI n := by rfl) (hN : N < 2 ^ 31 := by omega) : vp_in x N := by
  subst hx
  exact vp_in_nI h hN
theorem pk_cl {x : Int32} (n : Nat) (hx : x = nI n := by rfl) (h : n < 2 ^ 31 := by omega) : x.toNatClampNeg = n := by
  subst hx
  exact nI_clamp h
theorem pk_vb (z : Int32) : vp_nar .byte z.toInt8.toInt32 = z.toInt8.toInt32 := by rw [vp_nar_byte]; simp
theorem sb_negT {w : Nat} (h : w < 2 ^ 31) : (-nI w).toInt = -(w : Int) := by
  rw [Int32.toInt_neg, nI_toInt h]
  exact Int.bmod_eq_of_le (by omega) (by omega)
def bt (x : Int32) (i : Nat) : Bool := x.toBitVec.getLsbD i
theorem b_ext {x y : Int32} (h : ∀ i, i < 32 → bt x i = bt y i) : x = y := Int32.toBitVec_inj.mp (BitVec.eq_of_getLsbD_eq (fun i hi => h i hi))
theorem b_or (x y : Int32) (i : Nat) : bt (x ||| y) i = (bt x i || bt y i) := by unfold bt; rw [Int32.toBitVec_or, BitVec.getLsbD_or]
theorem b_and (x y : Int32) (i : Nat) : bt (x &&& y) i = (bt x i && bt y i) := by unfold bt; rw [Int32.toBitVec_and, BitVec.getLsbD_and]
theorem b_xor (x y : Int32) (i : Nat) : bt (x ^^^ y) i = (bt x i ^^ bt y i) := by unfold bt; rw [Int32.toBitVec_xor, BitVec.getLsbD_xor]
theorem b_big {x : Int32} {i : Nat} (h : 32 ≤ i) : bt x i = false := BitVec.getLsbD_of_ge _ _ h
theorem b_m1 : ∀ i, i < 32 → bt (-1) i = true := by decide +kernel
theorem b_0 (i : Nat) : bt 0 i = false := BitVec.getLsbD_zero
theorem s_l : ∀ n, n < 32 → ((nI n &&& 31).toBitVec.smod 32).toNat = n := by decide +kernel
theorem b_shl (n : Nat) (hn : n < 32) (x : Int32) {i : Nat} (hi : i < 32) : bt (x <<< (nI n &&& 31)) i = (decide (n ≤ i) && bt x (i - n)) := by
  unfold bt
  rw [Int32.toBitVec_shiftLeft]
  show (x.toBitVec <<< ((nI n &&& 31).toBitVec.smod 32).toNat).getLsbD i = _
  rw [s_l n hn, BitVec.getLsbD_shiftLeft]
  rcases Nat.lt_or_ge i n with h | h
  · simp [h, Nat.not_le.mpr h]
  · simp [hi, h, Nat.not_lt.mpr h]
theorem b_sshr (n : Nat) (hn : n < 32) (x : Int32) {i : Nat} (hi : i < 32) : bt (x >>> (nI n &&& 31)) i = if n + i < 32 then bt x (n + i) else bt x 31 := by
  unfold bt
  rw [Int32.toBitVec_shiftRight]
  show (x.toBitVec.sshiftRight ((nI n &&& 31).toBitVec.smod 32).toNat).getLsbD i = _
  rw [s_l n hn, BitVec.getLsbD_sshiftRight, BitVec.msb_eq_getLsbD_last]
  simp [hi]
end
section
/-! ===== the tree: q x is the parent of x, 12 stands for 'above the root' ===== -/
def qt_up (q : Nat → Nat) : Nat → Nat → Nat
  | 0, x => x
  | k + 1, x => qt_up q k (q x)
theorem qt_up_add {q : Nat → Nat} : ∀ (a b x : Nat), qt_up q (a + b) x = qt_up q b (qt_up q a x) := by
  intro a
  induction a with
  | zero => intro b x; rw [Nat.zero_add]; rfl
  | succ a ih =>
    intro b x
    rw [show a + 1 + b = (a + b) + 1 by omega]
    exact ih b (q x)
theorem qt_up_s {q : Nat → Nat} (k x : Nat) : qt_up q (k + 1) x = q (qt_up q k x) := qt_up_add k 1 x
theorem qt_up_top {q : Nat → Nat} (h : q 12 = 12) : ∀ k, qt_up q k 12 = 12 := by
  intro k
  induction k with
  | zero => rfl
  | succ k ih => show qt_up q k (q 12) = 12; rw [h]; exact ih
theorem qt_up_mul {q : Nat → Nat} {c x : Nat} (h : qt_up q c x = x) : ∀ j, qt_up q (j * c) x = x := by
  intro j
  induction j with
  | zero => rw [Nat.zero_mul]; rfl
  | succ j ih => rw [Nat.succ_mul, qt_up_add, ih, h]
theorem qt_acy {q : Nat → Nat} (h : q 12 = 12) {d x : Nat} (hu : qt_up q d x = 12) (hx : x < 12) (k : Nat) : qt_up q (k + 1) x ≠ x := by
  intro e
  have e1 := qt_up_mul e d
  have e2 : d * (k + 1) = d + d * k := by rw [Nat.mul_add, Nat.mul_one]; omega
  rw [e2, qt_up_add, hu, qt_up_top h] at e1
  omega
/-- n + 1 numbers below n: two of them are alike -/
theorem qt_pig : ∀ (n : Nat) (f : Nat → Nat), (∀ i, i ≤ n → f i < n) → ∃ i j, i < j ∧ j ≤ n ∧ f i = f j := by
  intro n
  induction n with
  | zero => intro f h; exact absurd (h 0 (Nat.le_refl 0)) (Nat.not_lt_zero _)
  | succ n ih =>
    intro f h
    by_cases hc : ∃ i, i ≤ n ∧ f i = f (n + 1)
    · obtain ⟨i, hi, e⟩ := hc
      exact ⟨i, n + 1, by omega, Nat.le_refl _, e⟩
    · have hn : ∀ i, i ≤ n → f i ≠ f (n + 1) := fun i hi e => hc ⟨i, hi, e⟩
      have hl := h (n + 1) (Nat.le_refl _)
      obtain ⟨i, j, hij, hj, e⟩ := ih (fun i => if f i = n then f (n + 1) else f i) (by
        intro i hi
        have h1 := hn i hi
        have h2 := h i (by omega)
        by_cases hf : f i = n
        · show (if f i = n then f (n + 1) else f i) < n
          rw [if_pos hf]; omega
        · show (if f i = n then f (n + 1) else f i) < n
          rw [if_neg hf]; omega)
      have e' : (if f i = n then f (n + 1) else f i) = (if f j = n then f (n + 1) else f j) := e
      have hi1 := hn i (by omega)
      have hj1 := hn j hj
      refine ⟨i, j, hij, by omega, ?_⟩
      by_cases a : f i = n
      · by_cases b : f j = n
        · omega
        · rw [if_pos a, if_neg b] at e'; omega
      · by_cases b : f j = n
        · rw [if_neg a, if_pos b] at e'; omega
        · rw [if_neg a, if_neg b] at e'; exact e'
theorem qt_up_le {q : Nat → Nat} (hq : ∀ x, q x ≤ 12) {x : Nat} (hx : x ≤ 12) : ∀ k, qt_up q k x ≤ 12 := by
  intro k
  cases k with
  | zero => exact hx
  | succ k => rw [qt_up_s]; exact hq _
/-- who gets to the top gets there in twelve steps -/
theorem qt_twelve {q : Nat → Nat} (h : q 12 = 12) (hq : ∀ x, q x ≤ 12) {x : Nat} (hx : x ≤ 12) (hk : ∃ k, qt_up q k x = 12) : qt_up q 12 x = 12 := by
  by_cases hc : qt_up q 12 x = 12
  · exact hc
  · exfalso
    have hne : ∀ i, i ≤ 12 → qt_up q i x < 12 := by
      intro i hi
      have h1 := qt_up_le hq hx i
      have h2 : qt_up q i x ≠ 12 := by
        intro e
        apply hc
        rw [show 12 = i + (12 - i) by omega, qt_up_add, e, ← show 12 = i + (12 - i) by omega]
        exact qt_up_top h _
      omega
    obtain ⟨i, j, hij, hj, e⟩ := qt_pig 12 (fun i => qt_up q i x) hne
    have e1 : qt_up q i x = qt_up q j x := e
    obtain ⟨k, hk⟩ := hk
    have hy : qt_up q k (qt_up q i x) = 12 := by
      rw [← qt_up_add, Nat.add_comm, qt_up_add, hk]
      exact qt_up_top h _
    apply qt_acy h hy (hne i (by omega)) (j - i - 1)
    rw [← qt_up_add, show i + (j - i - 1 + 1) = j by omega]
    exact e1.symm
/-- x is j or below it -/
noncomputable def qt_ub (q : Nat → Nat) (x j : Nat) : Bool := @decide (j < 12 ∧ ∃ k, qt_up q k x = j) (Classical.propDecidable _)
theorem qt_ub_iff {q : Nat → Nat} {x j : Nat} : qt_ub q x j = true ↔ j < 12 ∧ ∃ k, qt_up q k x = j := by
  unfold qt_ub
  exact @decide_eq_true_iff _ (Classical.propDecidable _)
theorem qt_ub_no {q : Nat → Nat} {x j : Nat} (h : ¬ qt_ub q x j = true) : qt_ub q x j = false := Bool.eq_false_iff.mpr h
theorem qt_beq {a b : Bool} (h : a = true ↔ b = true) : a = b := by
  cases a with
  | true => exact (h.mp rfl).symm
  | false => cases b with
    | true => exact h.mpr rfl
    | false => rfl
theorem qt_ub_lt {q : Nat → Nat} {x j : Nat} (h : qt_ub q x j = true) : j < 12 := (qt_ub_iff.mp h).1
theorem qt_ub_top {q : Nat → Nat} (h : q 12 = 12) (j : Nat) : qt_ub q 12 j = false := by
  apply qt_ub_no
  intro e
  obtain ⟨h1, k, h2⟩ := qt_ub_iff.mp e
  rw [qt_up_top h] at h2
  omega
theorem qt_ub_rf {q : Nat → Nat} {x : Nat} (h : x < 12) : qt_ub q x x = true := qt_ub_iff.mpr ⟨h, 0, rfl⟩
theorem qt_ub_st {q : Nat → Nat} {x j : Nat} (h : x ≠ j) : qt_ub q x j = qt_ub q (q x) j := by
  apply qt_beq
  rw [qt_ub_iff, qt_ub_iff]
  constructor
  · intro ⟨h1, k, h2⟩
    cases k with
    | zero => exact absurd h2 h
    | succ k => exact ⟨h1, k, h2⟩
  · intro ⟨h1, k, h2⟩
    exact ⟨h1, k + 1, h2⟩
theorem qt_ub_up {q : Nat → Nat} {x j : Nat} (h : qt_ub q (q x) j = true) : qt_ub q x j = true := by
  obtain ⟨h1, k, h2⟩ := qt_ub_iff.mp h
  exact qt_ub_iff.mpr ⟨h1, k + 1, h2⟩
theorem qt_ub_tr {q : Nat → Nat} {x y z : Nat} (h1 : qt_ub q x y = true) (h2 : qt_ub q y z = true) : qt_ub q x z = true := by
  obtain ⟨_, a, ha⟩ := qt_ub_iff.mp h1
  obtain ⟨hz, b, hb⟩ := qt_ub_iff.mp h2
  refine qt_ub_iff.mpr ⟨hz, a + b, ?_⟩
  rw [qt_up_add, ha, hb]
theorem qt_ub_ln {q : Nat → Nat} {x a b : Nat} (h1 : qt_ub q x a = true) (h2 : qt_ub q x b = true) : qt_ub q a b = true ∨ qt_ub q b a = true := by
  obtain ⟨ha, i, hi⟩ := qt_ub_iff.mp h1
  obtain ⟨hb, j, hj⟩ := qt_ub_iff.mp h2
  rcases Nat.le_total i j with h | h
  · refine Or.inl (qt_ub_iff.mpr ⟨hb, j - i, ?_⟩)
    rw [← hi, ← qt_up_add, show i + (j - i) = j by omega, hj]
  · refine Or.inr (qt_ub_iff.mpr ⟨ha, i - j, ?_⟩)
    rw [← hj, ← qt_up_add, show j + (i - j) = i by omega, hi]
theorem qt_ub_ac {q : Nat → Nat} (h : q 12 = 12) {d x : Nat} (hu : qt_up q d x = 12) (hx : x < 12) : qt_ub q (q x) x = false := by
  apply qt_ub_no
  intro e
  obtain ⟨_, k, hk⟩ := qt_ub_iff.mp e
  exact qt_acy h hu hx k hk
/-- the present ones (bits of m) are a tree with root 0 -/
def qt_Tr (m : Int32) (q : Nat → Nat) : Prop :=
  (∀ i, bt m i = true → i < 12) ∧ bt m 0 = true ∧ q 0 = 12 ∧ q 12 = 12 ∧ (∀ x, q x ≤ 12) ∧ (∀ i, bt m i = true → i ≠ 0 → bt m (q i) = true) ∧ (∀ i, bt m i = true → ∃ k, qt_up q k i = 12)
section
variable {m : Int32} {q : Nat → Nat}
theorem qt_tr_lt (H : qt_Tr m q) {i : Nat} (h : bt m i = true) : i < 12 := H.1 i h
theorem qt_tr_0 (H : qt_Tr m q) : bt m 0 = true := H.2.1
theorem qt_tr_q0 (H : qt_Tr m q) : q 0 = 12 := H.2.2.1
theorem qt_tr_q12 (H : qt_Tr m q) : q 12 = 12 := H.2.2.2.1
theorem qt_tr_le (H : qt_Tr m q) : ∀ x, q x ≤ 12 := H.2.2.2.2.1
theorem qt_tr_par (H : qt_Tr m q) {i : Nat} (h : bt m i = true) (h0 : i ≠ 0) : bt m (q i) = true := H.2.2.2.2.2.1 i h h0
theorem qt_tr_ex (H : qt_Tr m q) {i : Nat} (h : bt m i = true) : ∃ k, qt_up q k i = 12 := H.2.2.2.2.2.2 i h
theorem qt_tr_12 (H : qt_Tr m q) {i : Nat} (h : bt m i = true) : qt_up q 12 i = 12 :=
  qt_twelve (qt_tr_q12 H) (qt_tr_le H) (Nat.le_of_lt (qt_tr_lt H h)) (qt_tr_ex H h)
theorem qt_tr_rt (H : qt_Tr m q) {i : Nat} (h : bt m i = true) : qt_ub q i 0 = true := by
  obtain ⟨k, hk⟩ := qt_tr_ex H h
  induction k generalizing i with
  | zero =>
    have e : i = 12 := hk
    have := qt_tr_lt H h
    omega
  | succ k ih =>
    by_cases e : i = 0
    · rw [e]; exact qt_ub_rf (by decide)
    · exact qt_ub_up (ih (qt_tr_par H h e) hk)
theorem qt_tr_up (H : qt_Tr m q) {i j : Nat} (h : bt m i = true) (hu : qt_ub q i j = true) : bt m j = true := by
  obtain ⟨hj, k, hk⟩ := qt_ub_iff.mp hu
  clear hu
  induction k generalizing i with
  | zero =>
    have e : i = j := hk
    rw [← e]; exact h
  | succ k ih =>
    by_cases e : i = 0
    · have e2 : qt_up q k (q i) = j := hk
      rw [e, qt_tr_q0 H, qt_up_top (qt_tr_q12 H)] at e2
      omega
    · exact ih (qt_tr_par H h e) hk
theorem qt_tr_ac (H : qt_Tr m q) {i : Nat} (h : bt m i = true) : qt_ub q (q i) i = false :=
  qt_ub_ac (qt_tr_q12 H) (qt_tr_12 H h) (qt_tr_lt H h)
theorem qt_tr_as (H : qt_Tr m q) {x y : Nat} (h : bt m x = true) (h1 : qt_ub q x y = true) (h2 : qt_ub q y x = true) : x = y := by
  by_cases e : x = y
  · exact e
  · rw [qt_ub_st e] at h1
    have := qt_ub_tr h1 h2
    rw [qt_tr_ac H h] at this
    exact absurd this (by decide)
/-- somebody below o, and not o: then o has a child -/
theorem qt_tr_ch (H : qt_Tr m q) {p o : Nat} (h : bt m p = true) (hu : qt_ub q p o = true) (hn : p ≠ o) : ∃ c, bt m c = true ∧ q c = o := by
  obtain ⟨ho, k, hk⟩ := qt_ub_iff.mp hu
  clear hu
  induction k generalizing p with
  | zero => exact absurd hk hn
  | succ k ih =>
    by_cases e0 : p = 0
    · have e2 : qt_up q k (q p) = o := hk
      rw [e0, qt_tr_q0 H, qt_up_top (qt_tr_q12 H)] at e2
      omega
    · by_cases e : q p = o
      · exact ⟨p, h, e⟩
      · exact ih (qt_tr_par H h e0) e hk
end
/-! ===== one parent changed ===== -/
def qt_u (f : Nat → Nat) (k x : Nat) : Nat → Nat := fun j => if j = k then x else f j
theorem qt_us {f : Nat → Nat} {k x : Nat} : qt_u f k x k = x := if_pos rfl
theorem qt_un {f : Nat → Nat} {k x j : Nat} (h : j ≠ k) : qt_u f k x j = f j := if_neg h
/-- a way up that doesn't meet o is the same in the changed tree -/
theorem qt_up_ch {q : Nat → Nat} {o a x : Nat} (h : ∀ k, qt_up q k x ≠ o) : ∀ k, qt_up (qt_u q o a) k x = qt_up q k x := by
  intro k
  induction k generalizing x with
  | zero => rfl
  | succ k ih =>
    show qt_up (qt_u q o a) k (qt_u q o a x) = qt_up q k (q x)
    rw [qt_un (show x ≠ o from h 0)]
    exact ih (fun k => h (k + 1))
theorem qt_ub_ch {q : Nat → Nat} {o a x j : Nat} (ho : o < 12) (h : qt_ub q x o = false) : qt_ub (qt_u q o a) x j = qt_ub q x j := by
  have hn : ∀ k, qt_up q k x ≠ o := by
    intro k e
    rw [qt_ub_iff.mpr ⟨ho, k, e⟩] at h
    exact absurd h (by decide)
  apply qt_beq
  rw [qt_ub_iff, qt_ub_iff]
  constructor
  · intro ⟨h1, k, h2⟩
    exact ⟨h1, k, by rw [← qt_up_ch hn k]; exact h2⟩
  · intro ⟨h1, k, h2⟩
    exact ⟨h1, k, by rw [qt_up_ch hn k]; exact h2⟩
theorem qt_ex_ch {q : Nat → Nat} {o a x : Nat} (ho : o < 12) (h : qt_ub q x o = false) (he : ∃ k, qt_up q k x = 12) : ∃ k, qt_up (qt_u q o a) k x = 12 := by
  have hn : ∀ k, qt_up q k x ≠ o := by
    intro k e
    rw [qt_ub_iff.mpr ⟨ho, k, e⟩] at h
    exact absurd h (by decide)
  obtain ⟨k, hk⟩ := he
  exact ⟨k, by rw [qt_up_ch hn k]; exact hk⟩
section
variable {m : Int32} {q : Nat → Nat}
/-- who was below o still gets to o -/
theorem qt_mv_o (H : qt_Tr m q) {o a x : Nat} (hx : bt m x = true) (hu : qt_ub q x o = true) : qt_ub (qt_u q o a) x o = true := by
  obtain ⟨ho, k, hk⟩ := qt_ub_iff.mp hu
  clear hu
  induction k generalizing x with
  | zero =>
    have e : x = o := hk
    rw [e]; exact qt_ub_rf ho
  | succ k ih =>
    by_cases e : x = o
    · rw [e]; exact qt_ub_rf ho
    · by_cases e0 : x = 0
      · have e2 : qt_up q k (q x) = o := hk
        rw [e0, qt_tr_q0 H, qt_up_top (qt_tr_q12 H)] at e2
        omega
      · have h1 := ih (qt_tr_par H hx e0) hk
        apply qt_ub_up
        rw [qt_un e]
        exact h1
/-- the move keeps the tree -/
theorem qt_mv_tr (H : qt_Tr m q) {o a : Nat} (h0 : o ≠ 0) (ho : bt m o = true) (ha : bt m a = true) (hn : qt_ub q a o = false) : qt_Tr m (qt_u q o a) := by
  have hol := qt_tr_lt H ho
  have hal := qt_tr_lt H ha
  refine ⟨H.1, qt_tr_0 H, ?_, ?_, ?_, ?_, ?_⟩
  · rw [qt_un (fun e => h0 e.symm)]; exact qt_tr_q0 H
  · rw [qt_un (by omega)]; exact qt_tr_q12 H
  · intro x
    by_cases e : x = o
    · rw [e, qt_us]; omega
    · rw [qt_un e]; exact qt_tr_le H x
  · intro i hi hi0
    by_cases e : i = o
    · rw [e, qt_us]; exact ha
    · rw [qt_un e]; exact qt_tr_par H hi hi0
  · intro i hi
    obtain ⟨k, hk⟩ := qt_ex_ch (a := a) hol hn (qt_tr_ex H ha)
    by_cases e : qt_ub q i o = true
    · obtain ⟨_, j, hj⟩ := qt_ub_iff.mp (qt_mv_o (a := a) H hi e)
      refine ⟨j + (k + 1), ?_⟩
      rw [qt_up_add, hj]
      show qt_up (qt_u q o a) k (qt_u q o a o) = 12
      rw [qt_us]; exact hk
    · exact qt_ex_ch hol (qt_ub_no e) (qt_tr_ex H hi)
/-- who is below whom behind the move, for those below o -/
theorem qt_mv_ub (H : qt_Tr m q) {o a x j : Nat} (h0 : o ≠ 0) (ho : bt m o = true) (hn : qt_ub q a o = false) (hx : bt m x = true) (hu : qt_ub q x o = true) :
    qt_ub (qt_u q o a) x j = true ↔ (qt_ub q x j = true ∧ qt_ub q (q o) j = false) ∨ qt_ub q a j = true := by
  have hol := qt_tr_lt H ho
  obtain ⟨_, k, hk⟩ := qt_ub_iff.mp hu
  clear hu
  induction k generalizing x with
  | zero =>
    have e : x = o := hk
    subst e
    by_cases ej : x = j
    · subst ej
      rw [qt_ub_rf hol, qt_ub_rf hol, qt_tr_ac H ho]
      exact ⟨fun _ => Or.inl ⟨rfl, rfl⟩, fun _ => rfl⟩
    · rw [qt_ub_st (q := qt_u q x a) ej, qt_us, qt_ub_ch hol hn, qt_ub_st (q := q) ej]
      constructor
      · intro h; exact Or.inr h
      · intro h
        rcases h with ⟨h1, h2⟩ | h
        · rw [h1] at h2; exact absurd h2 (by decide)
        · exact h
  | succ k ih =>
    by_cases e : x = o
    · subst e
      by_cases ej : x = j
      · subst ej
        rw [qt_ub_rf hol, qt_ub_rf hol, qt_tr_ac H ho]
        exact ⟨fun _ => Or.inl ⟨rfl, rfl⟩, fun _ => rfl⟩
      · rw [qt_ub_st (q := qt_u q x a) ej, qt_us, qt_ub_ch hol hn, qt_ub_st (q := q) ej]
        constructor
        · intro h; exact Or.inr h
        · intro h
          rcases h with ⟨h1, h2⟩ | h
          · rw [h1] at h2; exact absurd h2 (by decide)
          · exact h
    · have e0 : x ≠ 0 := by
        intro e0
        have e2 : qt_up q k (q x) = o := hk
        rw [e0, qt_tr_q0 H, qt_up_top (qt_tr_q12 H)] at e2
        omega
      have h1 := ih (qt_tr_par H hx e0) hk
      by_cases ej : x = j
      · subst ej
        have hxl := qt_tr_lt H hx
        rw [qt_ub_rf hxl, qt_ub_rf hxl]
        refine ⟨fun _ => Or.inl ⟨rfl, ?_⟩, fun _ => rfl⟩
        apply qt_ub_no
        intro hc
        have h2 : qt_ub q (q x) o = true := qt_ub_iff.mpr ⟨hol, k, hk⟩
        have h3 := qt_ub_tr h2 (qt_ub_up hc)
        rw [qt_tr_ac H hx] at h3
        exact absurd h3 (by decide)
      · rw [qt_ub_st (q := qt_u q o a) ej, qt_un e, qt_ub_st (q := q) ej]
        exact h1
end
end
section
/-! ===== sums ===== -/
def qt_sm (f : Nat → Nat) : Nat → Nat
  | 0 => 0
  | n + 1 => qt_sm f n + f n
theorem qt_sm_s (f : Nat → Nat) (n : Nat) : qt_sm f (n + 1) = qt_sm f n + f n := rfl
theorem qt_sm_c {f g : Nat → Nat} : ∀ n, (∀ i, i < n → f i = g i) → qt_sm f n = qt_sm g n := by
  intro n
  induction n with
  | zero => intro _; rfl
  | succ n ih =>
    intro h
    rw [qt_sm_s, qt_sm_s, ih (fun i hi => h i (by omega)), h n (by omega)]
theorem qt_sm_a {f g h : Nat → Nat} : ∀ n, (∀ i, i < n → h i = f i + g i) → qt_sm h n = qt_sm f n + qt_sm g n := by
  intro n
  induction n with
  | zero => intro _; rfl
  | succ n ih =>
    intro e
    rw [qt_sm_s, qt_sm_s, qt_sm_s, ih (fun i hi => e i (by omega)), e n (by omega)]
    omega
theorem qt_sm_u {f g : Nat → Nat} {i : Nat} : ∀ n, i < n → (∀ j, j < n → j ≠ i → g j = f j) → qt_sm g n + f i = qt_sm f n + g i := by
  intro n
  induction n with
  | zero => intro h; omega
  | succ n ih =>
    intro hi e
    rw [qt_sm_s, qt_sm_s]
    by_cases c : i = n
    · subst c
      rw [qt_sm_c i (fun j hj => e j (by omega) (by omega))]
      omega
    · have h1 := ih (by omega) (fun j hj hn => e j (by omega) hn)
      rw [e n (by omega) (fun h => c h.symm)]
      omega
theorem qt_sm_l {f : Nat → Nat} {i : Nat} : ∀ n, i < n → f i ≤ qt_sm f n := by
  intro n
  induction n with
  | zero => intro h; omega
  | succ n ih =>
    intro hi
    rw [qt_sm_s]
    by_cases c : i = n
    · subst c; omega
    · have := ih (by omega); omega
theorem qt_sm_0 {f : Nat → Nat} : ∀ n, (∀ i, i < n → f i = 0) → qt_sm f n = 0 := by
  intro n
  induction n with
  | zero => intro _; rfl
  | succ n ih => intro h; rw [qt_sm_s, ih (fun i hi => h i (by omega)), h n (by omega)]
/-- a number if a condition holds -/
def qt_w (b : Bool) (n : Nat) : Nat := match b with
  | true => n
  | false => 0
theorem qt_w_t (n : Nat) : qt_w true n = n := rfl
theorem qt_w_f (n : Nat) : qt_w false n = 0 := rfl
/-- what the owners p with c p use, have waiting and have reserved -/
def qt_S (m op : Int32) (U W own L : Nat → Nat) (c : Nat → Bool) : Nat :=
  qt_sm (fun p => qt_w (bt m p && c p) (U p + W p)) 12 + qt_sm (fun r => qt_w (bt op r && c (own r)) (L r)) 10
def qt_Ow (m op : Int32) (own : Nat → Nat) : Prop := ∀ r, bt op r = true → r < 10 ∧ bt m (own r) = true
section
variable {m op : Int32} {U W own L : Nat → Nat}
theorem qt_S_c (O : qt_Ow m op own) {c d : Nat → Bool} (h : ∀ p, bt m p = true → c p = d p) : qt_S m op U W own L c = qt_S m op U W own L d := by
  unfold qt_S
  rw [qt_sm_c 12 (g := fun p => qt_w (bt m p && d p) (U p + W p)), qt_sm_c 10 (g := fun r => qt_w (bt op r && d (own r)) (L r))]
  · intro r _
    show qt_w (bt op r && c (own r)) (L r) = qt_w (bt op r && d (own r)) (L r)
    cases e : bt op r with
    | true => rw [h _ (O r e).2]
    | false => rfl
  · intro p _
    show qt_w (bt m p && c p) (U p + W p) = qt_w (bt m p && d p) (U p + W p)
    cases e : bt m p with
    | true => rw [h p e]
    | false => rfl
theorem qt_w_a {a b c : Bool} (n : Nat) (h : (a = true ↔ b = true ∨ c = true) ∧ ¬ (b = true ∧ c = true)) : qt_w a n = qt_w b n + qt_w c n := by
  obtain ⟨h1, h2⟩ := h
  cases b with
  | true => cases c with
    | true => exact absurd ⟨rfl, rfl⟩ h2
    | false => rw [h1.mpr (Or.inl rfl)]; rfl
  | false => cases c with
    | true => rw [h1.mpr (Or.inr rfl)]; show n = 0 + n; omega
    | false => cases a with
      | true => rcases h1.mp rfl with h | h <;> exact absurd h (by decide)
      | false => rfl
theorem qt_S_a (O : qt_Ow m op own) {c d e : Nat → Bool} (h : ∀ p, bt m p = true → (e p = true ↔ c p = true ∨ d p = true) ∧ ¬ (c p = true ∧ d p = true)) : qt_S m op U W own L e = qt_S m op U W own L c + qt_S m op U W own L d := by
  unfold qt_S
  rw [qt_sm_a (f := fun p => qt_w (bt m p && c p) (U p + W p)) (g := fun p => qt_w (bt m p && d p) (U p + W p)) 12, qt_sm_a (f := fun r => qt_w (bt op r && c (own r)) (L r)) (g := fun r => qt_w (bt op r && d (own r)) (L r)) 10]
  · omega
  · intro r _
    show qt_w (bt op r && e (own r)) (L r) = qt_w (bt op r && c (own r)) (L r) + qt_w (bt op r && d (own r)) (L r)
    cases k : bt op r with
    | true => exact qt_w_a _ (h _ (O r k).2)
    | false => rfl
  · intro p _
    show qt_w (bt m p && e p) (U p + W p) = qt_w (bt m p && c p) (U p + W p) + qt_w (bt m p && d p) (U p + W p)
    cases k : bt m p with
    | true => exact qt_w_a _ (h p k)
    | false => rfl
theorem qt_S_m (O : qt_Ow m op own) {c d : Nat → Bool} (h : ∀ p, bt m p = true → c p = true → d p = true) : qt_S m op U W own L c ≤ qt_S m op U W own L d := by
  have e := qt_S_a (U := U) (W := W) (L := L) O (c := c) (d := fun p => d p && !(c p)) (e := d) (by
    intro p hp
    have h1 := h p hp
    show (d p = true ↔ c p = true ∨ (d p && !(c p)) = true) ∧ ¬ (c p = true ∧ (d p && !(c p)) = true)
    cases hc : c p with
    | true => rw [h1 hc]; decide
    | false => cases d p <;> decide)
  omega
theorem qt_S_U {c : Nat → Bool} {p : Nat} (hl : p < 12) (hp : bt m p = true) (hc : c p = true) : U p + W p ≤ qt_S m op U W own L c := by
  have h := qt_sm_l (f := fun p => qt_w (bt m p && c p) (U p + W p)) 12 hl
  have e : qt_w (bt m p && c p) (U p + W p) = U p + W p := by
    rw [hp, hc]; rfl
  rw [e] at h
  unfold qt_S
  omega
theorem qt_S_L {c : Nat → Bool} {r : Nat} (hl : r < 10) (hr : bt op r = true) (hc : c (own r) = true) : L r ≤ qt_S m op U W own L c := by
  have h := qt_sm_l (f := fun r => qt_w (bt op r && c (own r)) (L r)) 10 hl
  have e : qt_w (bt op r && c (own r)) (L r) = L r := by
    rw [hr, hc]; rfl
  rw [e] at h
  unfold qt_S
  omega
/-- one owner's numbers changed -/
theorem qt_S_p {U' W' : Nat → Nat} {p : Nat} (hp : p < 12) (hU : ∀ j, j ≠ p → U' j = U j) (hW : ∀ j, j ≠ p → W' j = W j) (c : Nat → Bool) :
    qt_S m op U' W' own L c + qt_w (bt m p && c p) (U p + W p) = qt_S m op U W own L c + qt_w (bt m p && c p) (U' p + W' p) := by
  have h := qt_sm_u (f := fun p => qt_w (bt m p && c p) (U p + W p)) (g := fun p => qt_w (bt m p && c p) (U' p + W' p)) (i := p) 12 hp (by
    intro j _ hj
    show qt_w (bt m j && c j) (U' j + W' j) = qt_w (bt m j && c j) (U j + W j)
    rw [hU j hj, hW j hj])
  have h' : qt_sm (fun p => qt_w (bt m p && c p) (U' p + W' p)) 12 + qt_w (bt m p && c p) (U p + W p) = qt_sm (fun p => qt_w (bt m p && c p) (U p + W p)) 12 + qt_w (bt m p && c p) (U' p + W' p) := h
  unfold qt_S
  omega
/-- one reservation changed -/
theorem qt_S_r {op' : Int32} {own' L' : Nat → Nat} {r : Nat} (hr : r < 10) (hO : ∀ j, j ≠ r → bt op' j = bt op j) (hw : ∀ j, j ≠ r → own' j = own j) (hL : ∀ j, j ≠ r → L' j = L j) (c : Nat → Bool) :
    qt_S m op' U W own' L' c + qt_w (bt op r && c (own r)) (L r) = qt_S m op U W own L c + qt_w (bt op' r && c (own' r)) (L' r) := by
  have h := qt_sm_u (f := fun r => qt_w (bt op r && c (own r)) (L r)) (g := fun r => qt_w (bt op' r && c (own' r)) (L' r)) (i := r) 10 hr (by
    intro j _ hj
    show qt_w (bt op' j && c (own' j)) (L' j) = qt_w (bt op j && c (own j)) (L j)
    rw [hO j hj, hw j hj, hL j hj])
  have h' : qt_sm (fun r => qt_w (bt op' r && c (own' r)) (L' r)) 10 + qt_w (bt op r && c (own r)) (L r) = qt_sm (fun r => qt_w (bt op r && c (own r)) (L r)) 10 + qt_w (bt op' r && c (own' r)) (L' r) := h
  unfold qt_S
  omega
end
end
section
/-! ===== what the two objects' states say ===== -/
def qt_I (m op : Int32) (q Lm U W T own L : Nat → Nat) : Prop :=
  qt_Tr m q ∧ qt_Ow m op own ∧ (∀ i, Lm i ≤ 1000) ∧ (∀ i, bt m i = true → T i = qt_S m op U W own L (fun p => qt_ub q p i)) ∧ T 0 ≤ 1000
noncomputable def qt_ad (q : Nat → Nat) (x n : Nat) (T : Nat → Nat) : Nat → Nat := fun j => if qt_ub q x j = true then T j + n else T j
noncomputable def qt_sb (q : Nat → Nat) (x n : Nat) (T : Nat → Nat) : Nat → Nat := fun j => if qt_ub q x j = true then T j - n else T j
theorem qt_ad_t {q : Nat → Nat} {x n j : Nat} {T : Nat → Nat} (h : qt_ub q x j = true) : qt_ad q x n T j = T j + n := if_pos h
theorem qt_ad_f {q : Nat → Nat} {x n j : Nat} {T : Nat → Nat} (h : qt_ub q x j = false) : qt_ad q x n T j = T j := if_neg (by rw [h]; decide)
theorem qt_sb_t {q : Nat → Nat} {x n j : Nat} {T : Nat → Nat} (h : qt_ub q x j = true) : qt_sb q x n T j = T j - n := if_pos h
theorem qt_sb_f {q : Nat → Nat} {x n j : Nat} {T : Nat → Nat} (h : qt_ub q x j = false) : qt_sb q x n T j = T j := if_neg (by rw [h]; decide)
/-- every summand alike -/
theorem qt_S_g {m op m' op' : Int32} {U W own L U' W' own' L' : Nat → Nat} {c c' : Nat → Bool}
    (h1 : ∀ p, p < 12 → qt_w (bt m' p && c' p) (U' p + W' p) = qt_w (bt m p && c p) (U p + W p))
    (h2 : ∀ r, r < 10 → qt_w (bt op' r && c' (own' r)) (L' r) = qt_w (bt op r && c (own r)) (L r)) :
    qt_S m' op' U' W' own' L' c' = qt_S m op U W own L c := by
  unfold qt_S
  rw [qt_sm_c 12 h1, qt_sm_c 10 h2]
theorem qt_S_z {m op : Int32} {U W own L : Nat → Nat} {c : Nat → Bool}
    (h1 : ∀ p, p < 12 → qt_w (bt m p && c p) (U p + W p) = 0) (h2 : ∀ r, r < 10 → qt_w (bt op r && c (own r)) (L r) = 0) :
    qt_S m op U W own L c = 0 := by
  unfold qt_S
  rw [qt_sm_0 12 h1, qt_sm_0 10 h2]
section
variable {m op : Int32} {q Lm U W T own L : Nat → Nat}
theorem qt_I_tr (H : qt_I m op q Lm U W T own L) : qt_Tr m q := H.1
theorem qt_I_ow (H : qt_I m op q Lm U W T own L) : qt_Ow m op own := H.2.1
theorem qt_I_lm (H : qt_I m op q Lm U W T own L) : ∀ i, Lm i ≤ 1000 := H.2.2.1
theorem qt_I_s (H : qt_I m op q Lm U W T own L) {i : Nat} (h : bt m i = true) : T i = qt_S m op U W own L (fun p => qt_ub q p i) := H.2.2.2.1 i h
theorem qt_I_0 (H : qt_I m op q Lm U W T own L) : T 0 ≤ 1000 := H.2.2.2.2
theorem qt_I_t (H : qt_I m op q Lm U W T own L) {i : Nat} (h : bt m i = true) : T i ≤ T 0 := by
  have Tr := qt_I_tr H
  rw [qt_I_s H h, qt_I_s H (qt_tr_0 Tr)]
  exact qt_S_m (qt_I_ow H) (fun p hp _ => qt_tr_rt Tr hp)
theorem qt_I_tk (H : qt_I m op q Lm U W T own L) {i : Nat} (h : bt m i = true) : T i ≤ 1000 := Nat.le_trans (qt_I_t H h) (qt_I_0 H)
theorem qt_I_uw (H : qt_I m op q Lm U W T own L) {p i : Nat} (hp : bt m p = true) (hu : qt_ub q p i = true) : U p + W p ≤ T i := by
  have Tr := qt_I_tr H
  rw [qt_I_s H (qt_tr_up Tr hp hu)]
  exact qt_S_U (qt_tr_lt Tr hp) hp hu
theorem qt_I_l (H : qt_I m op q Lm U W T own L) {r i : Nat} (hr : bt op r = true) (hu : qt_ub q (own r) i = true) : L r ≤ T i := by
  have Tr := qt_I_tr H
  have O := qt_I_ow H r hr
  rw [qt_I_s H (qt_tr_up Tr O.2 hu)]
  exact qt_S_L (c := fun p => qt_ub q p i) O.1 hr hu
theorem qt_I_uwk (H : qt_I m op q Lm U W T own L) {p : Nat} (hp : bt m p = true) : U p + W p ≤ 1000 :=
  Nat.le_trans (qt_I_uw H hp (qt_tr_rt (qt_I_tr H) hp)) (qt_I_0 H)
theorem qt_I_lk (H : qt_I m op q Lm U W T own L) {r : Nat} (hr : bt op r = true) : L r ≤ 1000 :=
  Nat.le_trans (qt_I_l H hr (qt_tr_rt (qt_I_tr H) (qt_I_ow H r hr).2)) (qt_I_0 H)
/-! ===== each change keeps it ===== -/
theorem qt_k_lim (H : qt_I m op q Lm U W T own L) {o l : Nat} (hl : l ≤ 1000) : qt_I m op q (qt_u Lm o l) U W T own L := by
  refine ⟨H.1, H.2.1, ?_, H.2.2.2⟩
  intro i
  by_cases e : i = o
  · rw [e, qt_us]; exact hl
  · rw [qt_un e]; exact qt_I_lm H i
theorem qt_k_use (H : qt_I m op q Lm U W T own L) {r n : Nat} (hr : bt op r = true) (hn : n ≤ L r) : qt_I m op q Lm (qt_u U (own r) (U (own r) + n)) W T own (qt_u L r (L r - n)) := by
  have O := qt_I_ow H r hr
  refine ⟨H.1, H.2.1, H.2.2.1, ?_, H.2.2.2.2⟩
  intro i hi
  rw [qt_I_s H hi]
  have h1 := qt_S_p (m := m) (op := op) (U := U) (W := W) (own := own) (L := L) (U' := qt_u U (own r) (U (own r) + n)) (W' := W) (p := own r) (qt_tr_lt (qt_I_tr H) O.2) (fun j hj => qt_un hj) (fun _ _ => rfl) (fun p => qt_ub q p i)
  have h2 := qt_S_r (m := m) (op := op) (op' := op) (U := qt_u U (own r) (U (own r) + n)) (W := W) (own := own) (L := L) (own' := own) (L' := qt_u L r (L r - n)) (r := r) O.1 (fun _ _ => rfl) (fun _ _ => rfl) (fun j hj => qt_un hj) (fun p => qt_ub q p i)
  rw [qt_us] at h1 h2
  rw [O.2] at h1
  rw [hr] at h2
  cases e : qt_ub q (own r) i with
  | true =>
    rw [e] at h1 h2
    simp only [Bool.and_self, qt_w_t] at h1 h2
    omega
  | false =>
    rw [e] at h1 h2
    simp only [Bool.and_false, qt_w_f] at h1 h2
    omega
theorem qt_k_rel (H : qt_I m op q Lm U W T own L) {o n : Nat} (ho : bt m o = true) (hn : n ≤ U o) : qt_I m op q Lm (qt_u U o (U o - n)) (qt_u W o (W o + n)) T own L := by
  refine ⟨H.1, H.2.1, H.2.2.1, ?_, H.2.2.2.2⟩
  intro i hi
  rw [qt_I_s H hi]
  have h1 := qt_S_p (m := m) (op := op) (U := U) (W := W) (own := own) (L := L) (U' := qt_u U o (U o - n)) (W' := qt_u W o (W o + n)) (p := o) (qt_tr_lt (qt_I_tr H) ho) (fun j hj => qt_un hj) (fun j hj => qt_un hj) (fun p => qt_ub q p i)
  rw [qt_us, qt_us, show U o - n + (W o + n) = U o + W o by omega] at h1
  omega
theorem qt_k_giv (H : qt_I m op q Lm U W T own L) {r : Nat} {op' : Int32} (hr : bt op r = true) (hO : ∀ j, bt op' j = (bt op j && !decide (j = r))) : qt_I m op' q Lm U W (qt_sb q (own r) (L r) T) own L := by
  have O := qt_I_ow H r hr
  have Tr := qt_I_tr H
  have hr' : bt op' r = false := by rw [hO, decide_eq_true rfl]; simp
  refine ⟨H.1, ?_, H.2.2.1, ?_, ?_⟩
  · intro j hj
    rw [hO] at hj
    exact qt_I_ow H j (Bool.and_eq_true_iff.mp hj).1
  · intro i hi
    have h2 := qt_S_r (m := m) (op := op) (op' := op') (U := U) (W := W) (own := own) (L := L) (own' := own) (L' := L) (r := r) O.1 (fun j hj => by rw [hO, decide_eq_false hj]; simp) (fun _ _ => rfl) (fun _ _ => rfl) (fun p => qt_ub q p i)
    rw [hr, hr'] at h2
    have hs := qt_I_s H hi
    cases e : qt_ub q (own r) i with
    | true =>
      rw [qt_sb_t e]
      rw [e] at h2
      simp only [Bool.and_self, Bool.false_and, qt_w_t, qt_w_f] at h2
      omega
    | false =>
      rw [qt_sb_f e]
      rw [e] at h2
      simp only [Bool.and_false, qt_w_f] at h2
      omega
  · have h0 := qt_I_0 H
    rw [qt_sb_t (qt_tr_rt Tr O.2)]
    omega
theorem qt_k_res (H : qt_I m op q Lm U W T own L) {r o n : Nat} {op' : Int32} (hl : r < 10) (hr : bt op r = false) (ho : bt m o = true) (hO : ∀ j, bt op' j = (bt op j || decide (j = r))) (hn : T 0 + n ≤ 1000) : qt_I m op' q Lm U W (qt_ad q o n T) (qt_u own r o) (qt_u L r n) := by
  have Tr := qt_I_tr H
  have hr' : bt op' r = true := by rw [hO, decide_eq_true rfl]; simp
  refine ⟨H.1, ?_, H.2.2.1, ?_, ?_⟩
  · intro j hj
    by_cases e : j = r
    · rw [e, qt_us]; exact ⟨hl, ho⟩
    · rw [hO, decide_eq_false e, Bool.or_false] at hj
      rw [qt_un e]
      exact qt_I_ow H j hj
  · intro i hi
    have h2 := qt_S_r (m := m) (op := op) (op' := op') (U := U) (W := W) (own := own) (L := L) (own' := qt_u own r o) (L' := qt_u L r n) (r := r) hl (fun j hj => by rw [hO, decide_eq_false hj]; simp) (fun j hj => qt_un hj) (fun j hj => qt_un hj) (fun p => qt_ub q p i)
    rw [hr, hr', qt_us, qt_us] at h2
    have hs := qt_I_s H hi
    cases e : qt_ub q o i with
    | true =>
      rw [qt_ad_t e]
      rw [e] at h2
      simp only [Bool.and_self, Bool.false_and, qt_w_t, qt_w_f] at h2
      omega
    | false =>
      rw [qt_ad_f e]
      rw [e] at h2
      simp only [Bool.and_false, Bool.false_and, qt_w_f] at h2
      omega
  · rw [qt_ad_t (qt_tr_rt Tr ho)]; exact hn
theorem qt_k_fre (H : qt_I m op q Lm U W T own L) {p : Nat} (hp : bt m p = true) : qt_I m op q Lm U (qt_u W p 0) (qt_sb q p (W p) T) own L := by
  have Tr := qt_I_tr H
  refine ⟨H.1, H.2.1, H.2.2.1, ?_, ?_⟩
  · intro i hi
    have h1 := qt_S_p (m := m) (op := op) (U := U) (W := W) (own := own) (L := L) (U' := U) (W' := qt_u W p 0) (p := p) (qt_tr_lt Tr hp) (fun _ _ => rfl) (fun j hj => qt_un hj) (fun x => qt_ub q x i)
    rw [qt_us, hp] at h1
    have hs := qt_I_s H hi
    cases e : qt_ub q p i with
    | true =>
      rw [qt_sb_t e]
      rw [e] at h1
      simp only [Bool.and_self, qt_w_t] at h1
      omega
    | false =>
      rw [qt_sb_f e]
      rw [e] at h1
      simp only [Bool.and_false, qt_w_f] at h1
      omega
  · have h0 := qt_I_0 H
    rw [qt_sb_t (qt_tr_rt Tr hp)]
    omega
end
end
section
section
variable {m op : Int32} {q Lm U W T own L : Nat → Nat}
/-- nobody is below one who isn't there -/
theorem qt_abs (Tr : qt_Tr m q) {o x : Nat} (ho : bt m o = false) (hx : bt m x = true) : qt_ub q x o = false := by
  apply qt_ub_no
  intro h
  rw [qt_tr_up Tr hx h] at ho
  exact absurd ho (by decide)
theorem qt_add_tr (Tr : qt_Tr m q) {m' : Int32} {o a : Nat} (hl : o < 12) (ho : bt m o = false) (ha : bt m a = true) (hm : ∀ j, bt m' j = (bt m j || decide (j = o))) : qt_Tr m' (qt_u q o a) := by
  have hal := qt_tr_lt Tr ha
  have h0 : o ≠ 0 := by
    intro e
    rw [e, qt_tr_0 Tr] at ho
    exact absurd ho (by decide)
  have hold : ∀ {j}, bt m' j = true → j ≠ o → bt m j = true := by
    intro j h e
    rw [hm, decide_eq_false e, Bool.or_false] at h
    exact h
  have hnew : ∀ {j}, bt m j = true → bt m' j = true := by
    intro j h
    rw [hm, h, Bool.true_or]
  have hao : qt_ub q a o = false := qt_abs Tr ho ha
  refine ⟨?_, hnew (qt_tr_0 Tr), ?_, ?_, ?_, ?_, ?_⟩
  · intro i hi
    by_cases e : i = o
    · omega
    · exact qt_tr_lt Tr (hold hi e)
  · rw [qt_un (fun e => h0 e.symm)]; exact qt_tr_q0 Tr
  · rw [qt_un (by omega)]; exact qt_tr_q12 Tr
  · intro x
    by_cases e : x = o
    · rw [e, qt_us]; omega
    · rw [qt_un e]; exact qt_tr_le Tr x
  · intro i hi hi0
    by_cases e : i = o
    · rw [e, qt_us]; exact hnew ha
    · rw [qt_un e]; exact hnew (qt_tr_par Tr (hold hi e) hi0)
  · intro i hi
    by_cases e : i = o
    · obtain ⟨k, hk⟩ := qt_ex_ch (a := a) hl hao (qt_tr_ex Tr ha)
      refine ⟨k + 1, ?_⟩
      show qt_up (qt_u q o a) k (qt_u q o a i) = 12
      rw [e, qt_us]; exact hk
    · have hb := hold hi e
      exact qt_ex_ch hl (qt_abs Tr ho hb) (qt_tr_ex Tr hb)
theorem qt_k_add (H : qt_I m op q Lm U W T own L) {m' : Int32} {o a l : Nat} (hl : o < 12) (ho : bt m o = false) (ha : bt m a = true) (hm : ∀ j, bt m' j = (bt m j || decide (j = o))) (hk : l ≤ 1000) :
    qt_I m' op (qt_u q o a) (qt_u Lm o l) (qt_u U o 0) (qt_u W o 0) (qt_u T o 0) own L := by
  have Tr := qt_I_tr H
  have h0 : (0 : Nat) ≠ o := by
    intro e
    rw [← e, qt_tr_0 Tr] at ho
    exact absurd ho (by decide)
  have hold : ∀ {j}, bt m' j = true → j ≠ o → bt m j = true := by
    intro j h e
    rw [hm, decide_eq_false e, Bool.or_false] at h
    exact h
  have hub : ∀ {x i}, bt m x = true → qt_ub (qt_u q o a) x i = qt_ub q x i := by
    intro x i hx
    exact qt_ub_ch hl (qt_abs Tr ho hx)
  refine ⟨qt_add_tr Tr hl ho ha hm, ?_, (qt_k_lim H hk).2.2.1, ?_, ?_⟩
  · intro r hr
    have O := qt_I_ow H r hr
    exact ⟨O.1, by rw [hm, O.2, Bool.true_or]⟩
  · intro i hi
    by_cases e : i = o
    · rw [e, qt_us]
      symm
      apply qt_S_z
      · intro p hp
        by_cases ep : p = o
        · rw [ep, qt_us, qt_us]
          generalize (bt m' o && qt_ub (qt_u q o a) o o) = b
          cases b <;> rfl
        · cases hb : bt m p with
          | true =>
            show qt_w (bt m' p && qt_ub (qt_u q o a) p o) _ = 0
            rw [hub hb, qt_abs Tr ho hb, Bool.and_false]; rfl
          | false => rw [hm, hb, decide_eq_false ep]; rfl
      · intro r hr
        cases hb : bt op r with
        | true =>
          have O := qt_I_ow H r hb
          show qt_w (true && qt_ub (qt_u q o a) (own r) o) _ = 0
          rw [hub O.2, qt_abs Tr ho O.2]; rfl
        | false => rfl
    · rw [qt_un e, qt_I_s H (hold hi e)]
      symm
      apply qt_S_g
      · intro p hp
        by_cases ep : p = o
        · rw [ep, qt_us, qt_us, ho]
          show qt_w (bt m' o && qt_ub (qt_u q o a) o i) (0 + 0) = 0
          generalize (bt m' o && qt_ub (qt_u q o a) o i) = b
          cases b <;> rfl
        · rw [qt_un ep, qt_un ep, hm, decide_eq_false ep, Bool.or_false]
          cases hb : bt m p with
          | true =>
            show qt_w (true && qt_ub (qt_u q o a) p i) _ = qt_w (true && qt_ub q p i) _
            rw [hub hb]
          | false => rfl
      · intro r hr
        cases hb : bt op r with
        | true =>
          have O := qt_I_ow H r hb
          show qt_w (true && qt_ub (qt_u q o a) (own r) i) _ = qt_w (true && qt_ub q (own r) i) _
          rw [hub O.2]
        | false => rfl
  · rw [qt_un h0]; exact qt_I_0 H
theorem qt_k_rem (H : qt_I m op q Lm U W T own L) {m' op' : Int32} {o : Nat} (h0 : o ≠ 0) (ho : bt m o = true) (hT : T o = 0) (hc : ∀ c, bt m c = true → q c ≠ o)
    (hm : ∀ j, bt m' j = (bt m j && !decide (j = o))) (hO : ∀ j, bt op' j = (bt op j && !decide (own j = o))) :
    qt_I m' op' q Lm U W T own L := by
  have Tr := qt_I_tr H
  have hol := qt_tr_lt Tr ho
  have hold : ∀ {j}, bt m' j = true → bt m j = true ∧ j ≠ o := by
    intro j h
    rw [hm] at h
    have h2 := Bool.and_eq_true_iff.mp h
    refine ⟨h2.1, ?_⟩
    intro e
    have h3 := h2.2
    rw [decide_eq_true e] at h3
    exact absurd h3 (by decide)
  have hnew : ∀ {j}, bt m j = true → j ≠ o → bt m' j = true := by
    intro j h e
    rw [hm, h, decide_eq_false e]; rfl
  refine ⟨⟨?_, ?_, qt_tr_q0 Tr, qt_tr_q12 Tr, qt_tr_le Tr, ?_, ?_⟩, ?_, H.2.2.1, ?_, qt_I_0 H⟩
  · intro i hi
    exact qt_tr_lt Tr (hold hi).1
  · exact hnew (qt_tr_0 Tr) (fun e => h0 e.symm)
  · intro i hi hi0
    have h1 := (hold hi).1
    exact hnew (qt_tr_par Tr h1 hi0) (hc i h1)
  · intro i hi
    exact qt_tr_ex Tr (hold hi).1
  · intro r hr
    rw [hO] at hr
    have h2 := Bool.and_eq_true_iff.mp hr
    have O := qt_I_ow H r h2.1
    refine ⟨O.1, hnew O.2 ?_⟩
    intro e
    have h3 := h2.2
    rw [decide_eq_true e] at h3
    exact absurd h3 (by decide)
  · intro i hi
    rw [qt_I_s H (hold hi).1]
    symm
    apply qt_S_g
    · intro p hp
      by_cases ep : p = o
      · have hz := qt_I_uw H ho (qt_ub_rf hol)
        rw [ep, hm, decide_eq_true rfl, show U o + W o = 0 by omega, ho]
        generalize qt_ub q o i = b
        cases b <;> rfl
      · rw [hm, decide_eq_false ep, Bool.not_false, Bool.and_true]
    · intro r hr
      rw [hO]
      cases hb : bt op r with
      | true =>
        by_cases er : own r = o
        · have hz := qt_I_l H (i := o) hb (by rw [er]; exact qt_ub_rf hol)
          rw [decide_eq_true er, show L r = 0 by omega]
          generalize qt_ub q (own r) i = b
          cases b <;> rfl
        · rw [decide_eq_false er, Bool.not_false, Bool.and_true]
      | false => rfl
/-! ===== the move ===== -/
theorem qt_mv_S (H : qt_I m op q Lm U W T own L) {o a : Nat} (h0 : o ≠ 0) (ho : bt m o = true) (ha : bt m a = true) (hn : qt_ub q a o = false) {i : Nat} (hi : bt m i = true) :
    qt_S m op U W own L (fun p => qt_ub (qt_u q o a) p i) = qt_ad q a (T o) (qt_sb q (q o) (T o) T) i := by
  have Tr := qt_I_tr H
  have O := qt_I_ow H
  have hol := qt_tr_lt Tr ho
  have hs := qt_I_s H hi
  have hso := qt_I_s H ho
  have hqo := qt_tr_par Tr ho h0
  cases e1 : qt_ub q (q o) i with
  | true =>
    have hoi : qt_ub q o i = true := qt_ub_up e1
    cases e2 : qt_ub q a i with
    | true =>
      have h1 : qt_S m op U W own L (fun p => qt_ub (qt_u q o a) p i) = qt_S m op U W own L (fun p => qt_ub q p i) := by
        apply qt_S_c O
        intro p hp
        show qt_ub (qt_u q o a) p i = qt_ub q p i
        cases e3 : qt_ub q p o with
        | true => rw [(qt_mv_ub Tr h0 ho hn hp e3).mpr (Or.inr e2), qt_ub_tr e3 hoi]
        | false => exact qt_ub_ch hol e3
      have h2 : T o ≤ T i := by
        rw [hso, hs]
        exact qt_S_m O (fun p _ h => qt_ub_tr h hoi)
      rw [h1, qt_ad_t e2, qt_sb_t e1, ← hs]
      omega
    | false =>
      have h1 : qt_S m op U W own L (fun p => qt_ub q p i) = qt_S m op U W own L (fun p => qt_ub (qt_u q o a) p i) + qt_S m op U W own L (fun p => qt_ub q p o) := by
        apply qt_S_a O
        intro p hp
        show (qt_ub q p i = true ↔ qt_ub (qt_u q o a) p i = true ∨ qt_ub q p o = true) ∧ ¬ (qt_ub (qt_u q o a) p i = true ∧ qt_ub q p o = true)
        cases e3 : qt_ub q p o with
        | true =>
          have h3 : qt_ub (qt_u q o a) p i = false := by
            apply qt_ub_no
            intro h
            rcases (qt_mv_ub Tr h0 ho hn hp e3).mp h with ⟨_, h4⟩ | h4
            · rw [e1] at h4; exact absurd h4 (by decide)
            · rw [e2] at h4; exact absurd h4 (by decide)
          rw [h3, qt_ub_tr e3 hoi]
          decide
        | false =>
          rw [qt_ub_ch hol e3]
          cases qt_ub q p i <;> decide
      rw [qt_ad_f e2, qt_sb_t e1]
      omega
  | false =>
    cases e2 : qt_ub q a i with
    | true =>
      have h1 : qt_S m op U W own L (fun p => qt_ub (qt_u q o a) p i) = qt_S m op U W own L (fun p => qt_ub q p i) + qt_S m op U W own L (fun p => qt_ub q p o) := by
        apply qt_S_a O
        intro p hp
        show (qt_ub (qt_u q o a) p i = true ↔ qt_ub q p i = true ∨ qt_ub q p o = true) ∧ ¬ (qt_ub q p i = true ∧ qt_ub q p o = true)
        cases e3 : qt_ub q p o with
        | true =>
          have h3 : qt_ub q p i = false := by
            apply qt_ub_no
            intro h
            rcases qt_ub_ln h e3 with h4 | h4
            · have h5 := qt_ub_tr e2 h4
              rw [hn] at h5
              exact absurd h5 (by decide)
            · by_cases eo : o = i
              · rw [← eo, hn] at e2
                exact absurd e2 (by decide)
              · rw [qt_ub_st eo, e1] at h4
                exact absurd h4 (by decide)
          rw [h3, (qt_mv_ub Tr h0 ho hn hp e3).mpr (Or.inr e2)]
          decide
        | false =>
          rw [qt_ub_ch hol e3]
          cases qt_ub q p i <;> decide
      rw [qt_ad_t e2, qt_sb_f e1]
      omega
    | false =>
      have h1 : qt_S m op U W own L (fun p => qt_ub (qt_u q o a) p i) = qt_S m op U W own L (fun p => qt_ub q p i) := by
        apply qt_S_c O
        intro p hp
        show qt_ub (qt_u q o a) p i = qt_ub q p i
        cases e3 : qt_ub q p o with
        | true =>
          apply qt_beq
          rw [qt_mv_ub Tr h0 ho hn hp e3, e1, e2]
          constructor
          · intro h
            rcases h with h | h
            · exact h.1
            · exact absurd h (by decide)
          · intro h; exact Or.inl ⟨h, rfl⟩
        | false => exact qt_ub_ch hol e3
      rw [h1, qt_ad_f e2, qt_sb_f e1, hs]
theorem qt_k_mov (H : qt_I m op q Lm U W T own L) {o a : Nat} (h0 : o ≠ 0) (ho : bt m o = true) (ha : bt m a = true) (hn : qt_ub q a o = false) :
    qt_I m op (qt_u q o a) Lm U W (qt_ad q a (T o) (qt_sb q (q o) (T o) T)) own L := by
  have Tr := qt_I_tr H
  refine ⟨qt_mv_tr Tr h0 ho ha hn, H.2.1, H.2.2.1, ?_, ?_⟩
  · intro i hi
    exact (qt_mv_S H h0 ho ha hn hi).symm
  · have h1 := qt_I_0 H
    have h2 := qt_I_t H ho
    rw [qt_ad_t (qt_tr_rt Tr ha), qt_sb_t (qt_tr_rt Tr (qt_tr_par Tr ho h0))]
    omega
end
end
section
/-! ===== bits ===== -/
theorem qt_b1 (i : Nat) : bt 1 i = decide (i = 0) := by
  rcases Nat.lt_or_ge i 32 with h | h
  · exact (by decide +kernel : ∀ i, i < 32 → bt 1 i = decide (i = 0)) i h
  · rw [b_big h, decide_eq_false (by omega)]
theorem qt_bs {o : Nat} (ho : o < 32) (i : Nat) : bt ((1 : Int32) <<< (nI o &&& 31)) i = decide (i = o) := by
  rcases Nat.lt_or_ge i 32 with h | h
  · rw [b_shl o ho 1 h, qt_b1]
    by_cases e : i = o
    · rw [e]; simp
    · rw [decide_eq_false e]
      rcases Nat.lt_or_ge i o with h2 | h2
      · rw [decide_eq_false (by omega)]; rfl
      · rw [decide_eq_false (p := i - o = 0) (by omega), Bool.and_false]
  · rw [b_big h, decide_eq_false (by omega)]
theorem qt_set {o : Nat} (m : Int32) (ho : o < 32) (i : Nat) : bt (m ||| ((1 : Int32) <<< (nI o &&& 31))) i = (bt m i || decide (i = o)) := by
  rw [b_or, qt_bs ho]
theorem qt_clr {o : Nat} (m : Int32) (ho : o < 32) (i : Nat) : bt (m &&& (((1 : Int32) <<< (nI o &&& 31)) ^^^ (-1))) i = (bt m i && !decide (i = o)) := by
  rcases Nat.lt_or_ge i 32 with h | h
  · rw [b_and, b_xor, qt_bs ho, b_m1 i h, Bool.xor_true]
  · rw [b_big h, b_big h, Bool.false_and]
theorem qt_or0 (x : Int32) : x ||| 0 = x := b_ext (fun i _ => by rw [b_or, b_0, Bool.or_false])
theorem qt_bit {i : Nat} (m : Int32) (hi : i < 32) : ((m >>> (nI i &&& 31)) &&& 1) = 0 ↔ bt m i = false := by
  constructor
  · intro h
    have h1 : bt ((m >>> (nI i &&& 31)) &&& 1) 0 = false := by rw [h, b_0]
    rw [b_and, qt_b1, b_sshr i hi m (by decide), if_pos (by omega)] at h1
    simpa using h1
  · intro h
    apply b_ext
    intro j hj
    rw [b_and, qt_b1, b_0]
    by_cases e : j = 0
    · rw [e, b_sshr i hi m (by decide), if_pos (by omega), Nat.add_zero, h]; rfl
    · rw [decide_eq_false e, Bool.and_false]
/-! ===== the arrays of both ===== -/
def qt_z (b : Bool) : Int32 := match b with
  | true => 1
  | false => 0
theorem qt_z_t : qt_z true = 1 := rfl
theorem qt_z_f : qt_z false = 0 := rfl
def qt_e (n : Nat) : Int32 := if n < 12 then nI n else -1
theorem qt_e_lt {n : Nat} (h : n < 12) : qt_e n = nI n := if_pos h
theorem qt_e_12 : qt_e 12 = -1 := rfl
theorem qt_e_ng : qt_e 12 < 0 := by rw [qt_e_12]; decide
def qt_par (q : Nat → Nat) : Nat → Int32 := fun j => if j = 12 then 0 else qt_e (q j)
def qt_n (f : Nat → Nat) : Nat → Int32 := fun j => nI (f j)
def qt_th (m : Int32) : Nat → Int32 := fun j => qt_z (bt m j)
def qt_wh (op : Int32) (own : Nat → Nat) : Nat → Int32 := fun r => match bt op r with
  | true => nI (own r + 1)
  | false => 0
theorem qt_par_a (q : Nat → Nat) {x : Nat} (h : x < 12) : qt_par q (nI x).toNatClampNeg = qt_e (q x) := by
  rw [nI_clamp (by omega)]
  exact if_neg (by omega)
theorem qt_n_a (f : Nat → Nat) {x : Nat} (h : x < 12) : qt_n f (nI x).toNatClampNeg = nI (f x) := by
  rw [nI_clamp (by omega)]
  rfl
theorem qt_th_t {m : Int32} {x : Nat} (h : x < 12) (hm : bt m x = true) : qt_th m (nI x).toNatClampNeg = 1 := by
  rw [nI_clamp (by omega)]
  show qt_z (bt m x) = 1
  rw [hm]; rfl
theorem qt_th_f {m : Int32} {x : Nat} (h : x < 12) (hm : bt m x = false) : qt_th m (nI x).toNatClampNeg = 0 := by
  rw [nI_clamp (by omega)]
  show qt_z (bt m x) = 0
  rw [hm]; rfl
theorem qt_th_n {m : Int32} {x : Nat} (h : x < 12) (hm : bt m x = true) : ¬ qt_th m (nI x).toNatClampNeg = 0 := by
  rw [qt_th_t h hm]; decide
theorem qt_wh_t {op : Int32} {own : Nat → Nat} {r : Nat} (h : r < 10) (hr : bt op r = true) : qt_wh op own (nI r).toNatClampNeg = nI (own r + 1) := by
  rw [nI_clamp (by omega)]
  show (match bt op r with | true => nI (own r + 1) | false => (0 : Int32)) = nI (own r + 1)
  rw [hr]
theorem qt_wh_f {op : Int32} {own : Nat → Nat} {r : Nat} (h : r < 10) (hr : bt op r = false) : qt_wh op own (nI r).toNatClampNeg = 0 := by
  rw [nI_clamp (by omega)]
  show (match bt op r with | true => nI (own r + 1) | false => (0 : Int32)) = 0
  rw [hr]
theorem qt_n_u (f : Nat → Nat) {i : Nat} (x : Nat) (hi : i < 12) : upd (qt_n f) (nI i).toNatClampNeg (nI x) = qt_n (qt_u f i x) := by
  rw [nI_clamp (by omega)]
  funext j
  by_cases e : j = i
  · rw [e, pk_us]
    show nI x = nI (qt_u f i x i)
    rw [qt_us]
  · rw [pk_un e]
    show nI (f j) = nI (qt_u f i x j)
    rw [qt_un e]
theorem qt_par_u (q : Nat → Nat) {i x : Nat} (hi : i < 12) (hx : x ≤ 12) : upd (qt_par q) (nI i).toNatClampNeg (qt_e x) = qt_par (qt_u q i x) := by
  rw [nI_clamp (by omega)]
  funext j
  by_cases e : j = i
  · rw [e, pk_us]
    show qt_e x = (if i = 12 then 0 else qt_e (qt_u q i x i))
    rw [if_neg (by omega), qt_us]
  · rw [pk_un e]
    show (if j = 12 then 0 else qt_e (q j)) = (if j = 12 then 0 else qt_e (qt_u q i x j))
    rw [qt_un e]
theorem qt_byte : ∀ p, p < 12 → vp_nar .byte (nI p).toInt8.toInt32 = nI p := by
  intro p hp
  rw [pk_vb]
  exact (by decide +kernel : ∀ p, p < 12 → (nI p).toInt8.toInt32 = nI p) p hp
theorem qt_par_b (q : Nat → Nat) {i x : Nat} (hi : i < 12) (hx : x < 12) : upd (qt_par q) (nI i).toNatClampNeg (vp_nar .byte (nI x).toInt8.toInt32) = qt_par (qt_u q i x) := by
  rw [qt_byte x hx, ← qt_e_lt hx]
  exact qt_par_u q hi (by omega)
theorem qt_n_b (f : Nat → Nat) {i x : Nat} (hi : i < 12) (hx : x < 12) : upd (qt_n f) (nI i).toNatClampNeg (vp_nar .byte (nI x).toInt8.toInt32) = qt_n (qt_u f i x) := by
  rw [qt_byte x hx]
  exact qt_n_u f x hi
theorem qt_nb1 : vp_nar .boolean 1 = 1 := rfl
theorem qt_nb0 : vp_nar .boolean 0 = 0 := rfl
theorem qt_th_s (m : Int32) {i : Nat} (hi : i < 12) : upd (qt_th m) (nI i).toNatClampNeg (vp_nar .boolean 1) = qt_th (m ||| ((1 : Int32) <<< (nI i &&& 31))) := by
  rw [nI_clamp (by omega), qt_nb1]
  funext j
  show upd (qt_th m) i 1 j = qt_z (bt (m ||| ((1 : Int32) <<< (nI i &&& 31))) j)
  rw [qt_set m (by omega)]
  by_cases e : j = i
  · rw [e, pk_us, decide_eq_true rfl, Bool.or_true]; rfl
  · rw [pk_un e, decide_eq_false e, Bool.or_false]; rfl
theorem qt_th_c (m : Int32) {i : Nat} (hi : i < 12) : upd (qt_th m) (nI i).toNatClampNeg (vp_nar .boolean 0) = qt_th (m &&& (((1 : Int32) <<< (nI i &&& 31)) ^^^ (-1))) := by
  rw [nI_clamp (by omega), qt_nb0]
  funext j
  show upd (qt_th m) i 0 j = qt_z (bt (m &&& (((1 : Int32) <<< (nI i &&& 31)) ^^^ (-1))) j)
  rw [qt_clr m (by omega)]
  by_cases e : j = i
  · rw [e, pk_us, decide_eq_true rfl, Bool.not_true, Bool.and_false]; rfl
  · rw [pk_un e, decide_eq_false e, Bool.not_false, Bool.and_true]; rfl
theorem qt_wh_s (op : Int32) (own : Nat → Nat) {i : Nat} (x : Nat) (hi : i < 12) : upd (qt_wh op own) (nI i).toNatClampNeg (nI x + 1) = qt_wh (op ||| ((1 : Int32) <<< (nI i &&& 31))) (qt_u own i x) := by
  rw [nI_clamp (by omega), nI_1]
  funext j
  show upd (qt_wh op own) i (nI (x + 1)) j = (match bt (op ||| ((1 : Int32) <<< (nI i &&& 31))) j with | true => nI (qt_u own i x j + 1) | false => (0 : Int32))
  rw [qt_set op (by omega)]
  by_cases e : j = i
  · rw [e, pk_us, decide_eq_true rfl, Bool.or_true, qt_us]
  · rw [pk_un e, decide_eq_false e, Bool.or_false, qt_un e]; rfl
theorem qt_wh_c (op : Int32) (own : Nat → Nat) {i : Nat} (hi : i < 12) : upd (qt_wh op own) (nI i).toNatClampNeg 0 = qt_wh (op &&& (((1 : Int32) <<< (nI i &&& 31)) ^^^ (-1))) own := by
  rw [nI_clamp (by omega)]
  funext j
  show upd (qt_wh op own) i 0 j = (match bt (op &&& (((1 : Int32) <<< (nI i &&& 31)) ^^^ (-1))) j with | true => nI (own j + 1) | false => (0 : Int32))
  rw [qt_clr op (by omega)]
  by_cases e : j = i
  · rw [e, pk_us, decide_eq_true rfl, Bool.not_true, Bool.and_false]
  · rw [pk_un e, decide_eq_false e, Bool.not_false, Bool.and_true]; rfl
theorem qt_upd_id (f : Nat → Int32) (i : Nat) : upd f i (f i) = f := by
  funext j
  by_cases e : j = i
  · rw [e, pk_us]
  · rw [pk_un e]
theorem qt_12t {s : Nat} (h : 12 ≤ s) (hs : s < 2 ^ 31) : (12 : Int32) ≤ nI s := nI_le (a := 12) h hs
theorem qt_12f {s : Nat} (h : s < 12) : ¬ (12 : Int32) ≤ nI s := nI_ge (b := 12) h (by decide)
theorem qt_10t {s : Nat} (h : 10 ≤ s) (hs : s < 2 ^ 31) : (10 : Int32) ≤ nI s := nI_le (a := 10) h hs
theorem qt_10f {s : Nat} (h : s < 10) : ¬ (10 : Int32) ≤ nI s := nI_ge (b := 10) h (by decide)
theorem qt_ng {s : Nat} (h : s < 12) : ¬ nI s < 0 := nI_pos (by omega)
theorem qt_in {s : Nat} (h : s < 12) : vp_in (nI s) 12 := vp_in_nI h (by decide)
theorem qt_in0 {s : Nat} (h : s < 10) : vp_in (nI s) 10 := vp_in_nI h (by decide)
theorem qt_ne {x y : Nat} (hx : x < 12) (hy : y < 12) (h : x ≠ y) : ¬ nI x = nI y := fun e => h ((nI_eq (by omega) (by omega)).mp e)
theorem qt_10 : ¬ (1 : Int32) = 0 := by decide
theorem qt_neg (a : Nat) {b : Nat} (h : b ≤ a) : nI a + -(nI b) = nI (a - b) := by
  rw [← pk_sub h, Int32.sub_eq_add_neg]
abbrev qt_x (m op : Int32) (q Lm U W T own L : Nat → Nat) : SX := (m, op, qt_par q, qt_n Lm, qt_n U, qt_n W, qt_n T, qt_n own, qt_n L)
abbrev qt_y (m op : Int32) (q Lm U W own L : Nat → Nat) (bf : Nat → Int32) : SY := (qt_th m, qt_par q, qt_n Lm, qt_n U, qt_n W, qt_wh op own, qt_n L, bf)
end
section
/-! ===== the small methods of the component ===== -/
theorem qt_hs (m : Int32) (N : Nat) (v : Int32) : (∃ i, i < N ∧ bt m i = true ∧ v = nI i) ∨ (∀ i, i < N → v = nI i → bt m i = false) := by
  by_cases h : ∃ i, i < N ∧ bt m i = true ∧ v = nI i
  · exact Or.inl h
  · refine Or.inr (fun i hi e => ?_)
    cases hb : bt m i with
    | true => exact absurd ⟨i, hi, hb, e⟩ h
    | false => rfl
theorem qt_am (v : Int32) : (∃ n, n ≤ 1000 ∧ v = nI n) ∨ (v < 0 ∨ 1000 < v) := by
  by_cases h : v < 0
  · exact Or.inr (Or.inl h)
  · obtain ⟨n, hn, rfl⟩ := nI_of h
    by_cases c : n ≤ 1000
    · exact Or.inl ⟨n, c, rfl⟩
    · exact Or.inr (Or.inr (nI_lt (a := 1000) (by omega) hn))
section
variable {m op : Int32} {q : Nat → Nat} {par lim us wa tot ow lf : Nat → Int32} {post : Int32 → Prop}
theorem qt_has1 {i : Nat} (hl : i < 12) (h : bt m i = true) (hp : post 1) : wpX_has post (m, op, par, lim, us, wa, tot, ow, lf) (nI i) :=
  br_f (qt_ng hl) (br_f (qt_12f hl) (br_f (fun e => by rw [(qt_bit m (by omega)).mp e] at h; exact absurd h (by decide)) hp))
theorem qt_has0 {v : Int32} (h : ∀ i, i < 12 → v = nI i → bt m i = false) (hp : post 0) : wpX_has post (m, op, par, lim, us, wa, tot, ow, lf) v := by
  refine br_c (fun _ => hp) (fun h0 => br_c (fun _ => hp) (fun h1 => br_c (fun _ => hp) (fun h2 => ?_)))
  obtain ⟨i, hi, rfl⟩ := nI_of h0
  have hl : i < 12 := by
    by_cases c : i < 12
    · exact c
    · exact absurd (qt_12t (by omega) hi) h1
  exact absurd ((qt_bit m (by omega)).mpr (h i hl rfl)) h2
theorem qt_opn1 {i : Nat} (hl : i < 10) (h : bt op i = true) (hp : post 1) : wpX_isOpen post (m, op, par, lim, us, wa, tot, ow, lf) (nI i) :=
  br_f (qt_ng (by omega)) (br_f (qt_10f hl) (br_f (fun e => by rw [(qt_bit op (by omega)).mp e] at h; exact absurd h (by decide)) hp))
theorem qt_opn0 {v : Int32} (h : ∀ i, i < 10 → v = nI i → bt op i = false) (hp : post 0) : wpX_isOpen post (m, op, par, lim, us, wa, tot, ow, lf) v := by
  refine br_c (fun _ => hp) (fun h0 => br_c (fun _ => hp) (fun h1 => br_c (fun _ => hp) (fun h2 => ?_)))
  obtain ⟨i, hi, rfl⟩ := nI_of h0
  have hl : i < 10 := by
    by_cases c : i < 10
    · exact c
    · exact absurd (qt_10t (by omega) hi) h1
  exact absurd ((qt_bit op (by omega)).mpr (h i hl rfl)) h2
/-- absent at a number -/
theorem qt_at0 {m : Int32} {N i : Nat} (hl : i < N) (hN : N ≤ 32) (h : bt m i = false) : ∀ j, j < N → nI i = nI j → bt m j = false := by
  intro j hj e
  have : i = j := (nI_eq (by omega) (by omega)).mp e
  rw [← this]; exact h
theorem qt_amt1 {n : Nat} (h : n ≤ 1000) (hp : post 1) : wpX_isAmount post (nI n) :=
  br_f (nI_pos (by omega)) (br_f (nI_nlt (a := 1000) h (by decide)) hp)
theorem qt_amt0 {v : Int32} (h : v < 0 ∨ 1000 < v) (hp : post 0) : wpX_isAmount post v := by
  refine br_c (fun _ => hp) (fun h0 => br_c (fun _ => hp) (fun h1 => ?_))
  rcases h with h | h
  · exact absurd h h0
  · exact absurd h h1
theorem qt_xbel {o : Nat} (h12 : q 12 = 12) (hq : ∀ x, q x ≤ 12) (ho : o < 12) : ∀ d s n x, s + d = 12 → d < n → x ≤ 12 → qt_up q d x = 12 → post (qt_z (qt_ub q x o)) → wX_isBelow_5 post (nI o) m op (qt_par q) lim us wa tot ow lf n (qt_e x) (nI s) := by
  intro d
  induction d with
  | zero =>
    intro s n x hs hn hx hu hp
    obtain ⟨n, rfl⟩ : ∃ k, n = k + 1 := ⟨n - 1, by omega⟩
    have e : x = 12 := hu
    subst e
    rw [qt_ub_top h12] at hp
    exact br_t (qt_12t (by omega) (by omega)) hp
  | succ d ih =>
    intro s n x hs hn hx hu hp
    obtain ⟨n, rfl⟩ : ∃ k, n = k + 1 := ⟨n - 1, by omega⟩
    have h1 : ¬ (12 : Int32) ≤ nI s := qt_12f (by omega)
    by_cases e : x = 12
    · subst e
      rw [qt_ub_top h12] at hp
      exact br_f h1 (br_t qt_e_ng hp)
    · have hx' : x < 12 := by omega
      rw [qt_e_lt hx']
      refine br_f h1 (br_f (qt_ng hx') ?_)
      by_cases e2 : x = o
      · subst e2
        rw [qt_ub_rf hx'] at hp
        exact br_t rfl hp
      · rw [qt_ub_st e2] at hp
        refine br_f (qt_ne hx' ho e2) ⟨qt_in hx', nm_r (qt_par_a q hx') (nm_r (nI_1 s) ?_)⟩
        exact ih (s + 1) n (q x) (by omega) (by omega) (hq x) hu hp
theorem qt_xBel {m' : Int32} {o p : Nat} (Tr : qt_Tr m' q) (hb : bt m' p = true) (ho : o < 12) (h : post (qt_z (qt_ub q p o))) : wpX_isBelow post (m, op, qt_par q, lim, us, wa, tot, ow, lf) (nI p) (nI o) := by
  have hl := qt_tr_lt Tr hb
  have K := qt_xbel (m := m) (op := op) (lim := lim) (us := us) (wa := wa) (tot := tot) (ow := ow) (lf := lf) (qt_tr_q12 Tr) (qt_tr_le Tr) ho 12 0 13 p rfl (by decide) (by omega) (qt_tr_12 Tr hb) h
  rw [qt_e_lt hl] at K
  exact ⟨13, K⟩
end
section
variable {m op : Int32} {q : Nat → Nat} {lim us wa ow lf : Nat → Int32} {post : SX → Prop}
noncomputable def qt_cr (q : Nat → Nat) (x : Nat) (c : Int32) (tot : Nat → Int32) : Nat → Int32 := fun j => if qt_ub q x j = true then tot j + c else tot j
theorem qt_cr_12 {q : Nat → Nat} (h : q 12 = 12) (c : Int32) (tot : Nat → Int32) : qt_cr q 12 c tot = tot := by
  funext j
  exact if_neg (by rw [qt_ub_top h]; decide)
theorem qt_cr_st {q : Nat → Nat} (h : q 12 = 12) {d x : Nat} (hu : qt_up q d x = 12) (hx : x < 12) (c : Int32) (tot : Nat → Int32) : qt_cr q (q x) c (upd tot x (tot x + c)) = qt_cr q x c tot := by
  funext j
  show (if qt_ub q (q x) j = true then upd tot x (tot x + c) j + c else upd tot x (tot x + c) j) = (if qt_ub q x j = true then tot j + c else tot j)
  by_cases e : j = x
  · subst e
    rw [qt_ub_ac h hu hx, qt_ub_rf hx, pk_us, if_neg (by decide), if_pos rfl]
  · rw [pk_un e, qt_ub_st (fun e' => e e'.symm)]
theorem qt_xcar {c : Int32} (h12 : q 12 = 12) (hq : ∀ x, q x ≤ 12) : ∀ d s n x tot, s + d = 12 → d < n → x ≤ 12 → qt_up q d x = 12 → post (m, op, qt_par q, lim, us, wa, qt_cr q x c tot, ow, lf) → wX_carry_5 post c m op n (qt_e x) (nI s) (qt_par q) lim us wa tot ow lf := by
  intro d
  induction d with
  | zero =>
    intro s n x tot hs hn hx hu hp
    obtain ⟨n, rfl⟩ : ∃ k, n = k + 1 := ⟨n - 1, by omega⟩
    have e : x = 12 := hu
    subst e
    rw [qt_cr_12 h12] at hp
    exact br_t (qt_12t (by omega) (by omega)) hp
  | succ d ih =>
    intro s n x tot hs hn hx hu hp
    obtain ⟨n, rfl⟩ : ∃ k, n = k + 1 := ⟨n - 1, by omega⟩
    have h1 : ¬ (12 : Int32) ≤ nI s := qt_12f (by omega)
    by_cases e : x = 12
    · subst e
      rw [qt_cr_12 h12] at hp
      exact br_f h1 (br_t qt_e_ng hp)
    · have hx' : x < 12 := by omega
      rw [qt_e_lt hx']
      have hc : (nI x).toNatClampNeg = x := nI_clamp (by omega)
      refine br_f h1 (br_f (qt_ng hx') ⟨qt_in hx', qt_in hx', nm_r (e' := upd tot x (tot x + c)) (by rw [hc]) ⟨qt_in hx', nm_r (qt_par_a q hx') (nm_r (nI_1 s) ?_)⟩⟩)
      refine ih (s + 1) n (q x) (upd tot x (tot x + c)) (by omega) (by omega) (hq x) hu ?_
      rw [qt_cr_st h12 hu hx']
      exact hp
theorem qt_xCar {m' : Int32} {x : Nat} {c : Int32} {tot : Nat → Int32} (Tr : qt_Tr m' q) (hb : bt m' x = true) (h : post (m, op, qt_par q, lim, us, wa, qt_cr q x c tot, ow, lf)) : wpX_carry post (m, op, qt_par q, lim, us, wa, tot, ow, lf) (nI x) c := by
  have hl := qt_tr_lt Tr hb
  have K := qt_xcar (qt_tr_q12 Tr) (qt_tr_le Tr) 12 0 13 x tot rfl (by decide) (by omega) (qt_tr_12 Tr hb) h
  rw [qt_e_lt hl] at K
  exact ⟨13, K⟩
theorem qt_cr_n (q : Nat → Nat) (x n : Nat) (T : Nat → Nat) : qt_cr q x (nI n) (qt_n T) = qt_n (qt_ad q x n T) := by
  funext j
  show (if qt_ub q x j = true then nI (T j) + nI n else nI (T j)) = nI (if qt_ub q x j = true then T j + n else T j)
  by_cases e : qt_ub q x j = true
  · rw [if_pos e, if_pos e, nI_add]
  · rw [if_neg e, if_neg e]
theorem qt_cr_m {q : Nat → Nat} {x n : Nat} {T : Nat → Nat} (h : ∀ j, qt_ub q x j = true → n ≤ T j) : qt_cr q x (-(nI n)) (qt_n T) = qt_n (qt_sb q x n T) := by
  funext j
  show (if qt_ub q x j = true then nI (T j) + -(nI n) else nI (T j)) = nI (if qt_ub q x j = true then T j - n else T j)
  by_cases e : qt_ub q x j = true
  · rw [if_pos e, if_pos e, qt_neg _ (h j e)]
  · rw [if_neg e, if_neg e]
end
end
section
/-! ===== the small methods of the reference ===== -/
section
variable {m : Int32} {q : Nat → Nat} {th up lim us wa wh rs bf : Nat → Int32} {post : Int32 → Prop}
theorem qt_is1 {i : Nat} (hl : i < 12) (h : bt m i = true) (hp : post 1) : wpY_is post (qt_th m, up, lim, us, wa, wh, rs, bf) (nI i) :=
  br_f (qt_ng hl) (br_f (qt_12f hl) ⟨qt_in hl, br_f (qt_th_n hl h) hp⟩)
theorem qt_is0 {v : Int32} (h : ∀ i, i < 12 → v = nI i → bt m i = false) (hp : post 0) : wpY_is post (qt_th m, up, lim, us, wa, wh, rs, bf) v := by
  refine br_c (fun _ => hp) (fun h0 => br_c (fun _ => hp) (fun h1 => ?_))
  obtain ⟨i, hi, rfl⟩ := nI_of h0
  have hl : i < 12 := by
    by_cases c : i < 12
    · exact c
    · exact absurd (qt_12t (by omega) hi) h1
  exact ⟨qt_in hl, br_t (qt_th_f hl (h i hl rfl)) hp⟩
theorem qt_rsv1 {op : Int32} {own : Nat → Nat} {i : Nat} (hl : i < 10) (h : bt op i = true) (ho : own i < 12) (hp : post 1) : wpY_reserved post (th, up, lim, us, wa, qt_wh op own, rs, bf) (nI i) :=
  br_f (qt_ng (by omega)) (br_f (qt_10f hl) ⟨qt_in0 hl, br_f (by rw [qt_wh_t hl h]; exact nI_nle (by omega) (by omega)) hp⟩)
theorem qt_rsv0 {op : Int32} {own : Nat → Nat} {v : Int32} (h : ∀ i, i < 10 → v = nI i → bt op i = false) (hp : post 0) : wpY_reserved post (th, up, lim, us, wa, qt_wh op own, rs, bf) v := by
  refine br_c (fun _ => hp) (fun h0 => br_c (fun _ => hp) (fun h1 => ?_))
  obtain ⟨i, hi, rfl⟩ := nI_of h0
  have hl : i < 10 := by
    by_cases c : i < 10
    · exact c
    · exact absurd (qt_10t (by omega) hi) h1
  exact ⟨qt_in0 hl, br_t (by rw [qt_wh_f hl (h i hl rfl)]; decide) hp⟩
theorem qt_yam1 {n : Nat} (h : n ≤ 1000) (hp : post 1) : wpY_amount post (th, up, lim, us, wa, wh, rs, bf) (nI n) :=
  br_f (nI_pos (by omega)) (br_f (nI_nlt (a := 1000) h (by decide)) hp)
theorem qt_yam0 {v : Int32} (h : v < 0 ∨ 1000 < v) (hp : post 0) : wpY_amount post (th, up, lim, us, wa, wh, rs, bf) v := by
  refine br_c (fun _ => hp) (fun h0 => br_c (fun _ => hp) (fun h1 => ?_))
  rcases h with h | h
  · exact absurd h h0
  · exact absurd h h1
theorem qt_yund {o : Nat} (h12 : q 12 = 12) (hq : ∀ x, q x ≤ 12) (ho : o < 12) : ∀ d s n x, s + d = 12 → d < n → x ≤ 12 → qt_up q d x = 12 → post (qt_z (qt_ub q x o)) → wY_under_5 post (nI o) th (qt_par q) lim us wa wh rs bf n (qt_e x) (nI s) := by
  have htop : ¬ qt_e 12 = nI o := by
    intro e
    have h1 := qt_e_ng
    rw [e] at h1
    exact qt_ng ho h1
  intro d
  induction d with
  | zero =>
    intro s n x hs hn hx hu hp
    obtain ⟨n, rfl⟩ : ∃ k, n = k + 1 := ⟨n - 1, by omega⟩
    have e : x = 12 := hu
    subst e
    rw [qt_ub_top h12] at hp
    exact br_t (qt_12t (by omega) (by omega)) (br_f htop hp)
  | succ d ih =>
    intro s n x hs hn hx hu hp
    obtain ⟨n, rfl⟩ : ∃ k, n = k + 1 := ⟨n - 1, by omega⟩
    have h1 : ¬ (12 : Int32) ≤ nI s := qt_12f (by omega)
    by_cases e : x = 12
    · subst e
      rw [qt_ub_top h12] at hp
      exact br_f h1 (br_t qt_e_ng (br_f htop hp))
    · have hx' : x < 12 := by omega
      rw [qt_e_lt hx']
      refine br_f h1 (br_f (qt_ng hx') ?_)
      by_cases e2 : x = o
      · subst e2
        rw [qt_ub_rf hx'] at hp
        exact br_t rfl (br_t rfl hp)
      · rw [qt_ub_st e2] at hp
        refine br_f (qt_ne hx' ho e2) ⟨qt_in hx', nm_r (qt_par_a q hx') (nm_r (nI_1 s) ?_)⟩
        exact ih (s + 1) n (q x) (by omega) (by omega) (hq x) hu hp
theorem qt_yUnd {m' : Int32} {o p : Nat} (Tr : qt_Tr m' q) (hb : bt m' p = true) (ho : o < 12) (h : post (qt_z (qt_ub q p o))) : wpY_under post (th, qt_par q, lim, us, wa, wh, rs, bf) (nI p) (nI o) := by
  have hl := qt_tr_lt Tr hb
  have K := qt_yund (th := th) (lim := lim) (us := us) (wa := wa) (wh := wh) (rs := rs) (bf := bf) (qt_tr_q12 Tr) (qt_tr_le Tr) ho 12 0 13 p rfl (by decide) (by omega) (qt_tr_12 Tr hb) h
  rw [qt_e_lt hl] at K
  exact ⟨13, K⟩
end
/-! ===== the sum of the reference ===== -/
section
variable {m op : Int32} {q U W own L : Nat → Nat} {lim bf : Nat → Int32} {post : Int32 → Prop}
theorem qt_ytr {o A : Nat} (Tr : qt_Tr m q) (O : qt_Ow m op own) (ho : o < 12) (hp : post (nI (A + qt_sm (fun r => qt_w (bt op r && qt_ub q (own r) o) (L r)) 10))) :
    ∀ d r, r + d = 10 → wY_totalOf_56 post (nI o) (qt_th m) (qt_par q) lim (qt_n U) (qt_n W) (qt_wh op own) (qt_n L) bf (d + 1) (nI (A + qt_sm (fun r => qt_w (bt op r && qt_ub q (own r) o) (L r)) r)) (nI r) := by
  intro d
  induction d with
  | zero =>
    intro r hr
    have e : r = 10 := hr
    subst e
    exact br_t (qt_10t (by omega) (by omega)) hp
  | succ d ih =>
    intro r hr
    have h1 : ¬ (10 : Int32) ≤ nI r := qt_10f (by omega)
    have K := ih (r + 1) (by omega)
    have es : qt_sm (fun r => qt_w (bt op r && qt_ub q (own r) o) (L r)) (r + 1) = qt_sm (fun r => qt_w (bt op r && qt_ub q (own r) o) (L r)) r + qt_w (bt op r && qt_ub q (own r) o) (L r) := rfl
    rw [es] at K
    cases hb : bt op r with
    | false =>
      rw [hb] at K
      exact br_f h1 ⟨qt_in0 (by omega), br_t (by rw [qt_wh_f (by omega) hb]; decide) (nm_r (nI_1 r) K)⟩
    | true =>
      rw [hb, Bool.true_and] at K
      have Ob := O r hb
      have hol := qt_tr_lt Tr Ob.2
      have ew : qt_wh op own (nI r).toNatClampNeg = nI (own r + 1) := qt_wh_t (by omega) hb
      refine br_f h1 ⟨qt_in0 (by omega), br_f (by rw [ew]; exact nI_nle (by omega) (by omega)) ⟨qt_in0 (by omega), ?_⟩⟩
      rw [ew, nI_pred]
      refine qt_yUnd Tr Ob.2 ho ?_
      cases hu : qt_ub q (own r) o with
      | false =>
        rw [hu] at K
        exact br_t rfl (nm_r (nI_1 r) K)
      | true =>
        rw [hu] at K
        refine br_f qt_10 ⟨qt_in0 (by omega), nm_r (e' := nI (A + (qt_sm (fun r => qt_w (bt op r && qt_ub q (own r) o) (L r)) r + L r))) ?_ (nm_r (nI_1 r) K)⟩
        rw [qt_n_a L (by omega), nI_add, Nat.add_assoc]
theorem qt_yto {o : Nat} (Tr : qt_Tr m q) (O : qt_Ow m op own) (ho : o < 12) (hp : post (nI (qt_S m op U W own L (fun p => qt_ub q p o)))) :
    ∀ d p, p + d = 12 → wY_totalOf_4 post (nI o) (qt_th m) (qt_par q) lim (qt_n U) (qt_n W) (qt_wh op own) (qt_n L) bf (d + 1) (nI (qt_sm (fun p => qt_w (bt m p && qt_ub q p o) (U p + W p)) p)) (nI p) := by
  intro d
  induction d with
  | zero =>
    intro p hd
    have e : p = 12 := hd
    subst e
    exact br_t (qt_12t (by omega) (by omega)) ⟨11, qt_ytr Tr O ho hp 10 0 rfl⟩
  | succ d ih =>
    intro p hd
    have h1 : ¬ (12 : Int32) ≤ nI p := qt_12f (by omega)
    have K := ih (p + 1) (by omega)
    have es : qt_sm (fun p => qt_w (bt m p && qt_ub q p o) (U p + W p)) (p + 1) = qt_sm (fun p => qt_w (bt m p && qt_ub q p o) (U p + W p)) p + qt_w (bt m p && qt_ub q p o) (U p + W p) := rfl
    rw [es] at K
    cases hb : bt m p with
    | false =>
      rw [hb] at K
      exact br_f h1 ⟨qt_in (by omega), br_t (qt_th_f (by omega) hb) (nm_r (nI_1 p) K)⟩
    | true =>
      rw [hb, Bool.true_and] at K
      refine br_f h1 ⟨qt_in (by omega), br_f (qt_th_n (by omega) hb) ?_⟩
      refine qt_yUnd Tr hb ho ?_
      cases hu : qt_ub q p o with
      | false =>
        rw [hu] at K
        exact br_t rfl (nm_r (nI_1 p) K)
      | true =>
        rw [hu] at K
        refine br_f qt_10 ⟨qt_in (by omega), qt_in (by omega), nm_r (e' := nI (qt_sm (fun p => qt_w (bt m p && qt_ub q p o) (U p + W p)) p + (U p + W p))) ?_ (nm_r (nI_1 p) K)⟩
        rw [qt_n_a U (by omega), qt_n_a W (by omega), nI_add, nI_add, Nat.add_assoc]
theorem qt_yTot {o : Nat} (Tr : qt_Tr m q) (O : qt_Ow m op own) (ho : o < 12) (hp : post (nI (qt_S m op U W own L (fun p => qt_ub q p o)))) :
    wpY_totalOf post (qt_th m, qt_par q, lim, qt_n U, qt_n W, qt_wh op own, qt_n L, bf) (nI o) :=
  ⟨13, qt_yto Tr O ho hp 12 0 rfl⟩
end
end
section
/-- the relation: one abstract state stands behind both -/
def i_Rel (_ : Nat) (u : SX) (v : SY) : Prop := ∃ (m op : Int32) (q Lm U W T own L : Nat → Nat) (bf : Nat → Int32), u = qt_x m op q Lm U W T own L ∧ v = qt_y m op q Lm U W own L bf ∧ qt_I m op q Lm U W T own L
theorem i_up {k : Nat} {u : SX} {v : SY} (h : i_Rel k u v) : i_Rel (k + 3) u v := h
theorem qt_el {k : Nat} {P : SX → SY → Prop} (h : ∀ (m op : Int32) (q Lm U W T own L : Nat → Nat) (bf : Nat → Int32), qt_I m op q Lm U W T own L → P (qt_x m op q Lm U W T own L) (qt_y m op q Lm U W own L bf)) {u : SX} {v : SY} (I : i_Rel k u v) : P u v := by
  obtain ⟨m, op, q, Lm, U, W, T, own, L, bf, rfl, rfl, H⟩ := I
  exact h m op q Lm U W T own L bf H
theorem qt_mk {k : Nat} {m op : Int32} {q Lm U W T own L : Nat → Nat} {bf : Nat → Int32} (H : qt_I m op q Lm U W T own L) : i_Rel k (qt_x m op q Lm U W T own L) (qt_y m op q Lm U W own L bf) :=
  ⟨m, op, q, Lm, U, W, T, own, L, bf, rfl, rfl, H⟩
/-! ===== the constructors ===== -/
def qt_q0 : Nat → Nat := fun j => if j = 0 then 12 else if j = 12 then 12 else 0
theorem qt_i0 : qt_I 1 0 qt_q0 (qt_u (fun _ => 0) 0 1000) (fun _ => 0) (fun _ => 0) (fun _ => 0) (fun _ => 0) (fun _ => 0) := by
  have h1 : ∀ i, bt 1 i = true → i = 0 := by
    intro i h
    rw [qt_b1] at h
    exact of_decide_eq_true h
  refine ⟨⟨?_, rfl, rfl, rfl, ?_, ?_, ?_⟩, ?_, ?_, ?_, by decide⟩
  · intro i h
    rw [h1 i h]; decide
  · intro x
    unfold qt_q0
    by_cases a : x = 0
    · rw [if_pos a]; decide
    · rw [if_neg a]
      by_cases b : x = 12
      · rw [if_pos b]; decide
      · rw [if_neg b]; decide
  · intro i h hn
    exact absurd (h1 i h) hn
  · intro i h
    rw [h1 i h]
    exact ⟨1, rfl⟩
  · intro r h
    rw [b_0] at h
    exact absurd h (by decide)
  · intro i
    by_cases e : i = 0
    · rw [e, qt_us]; decide
    · rw [qt_un e]; decide
  · intro i h
    symm
    apply qt_S_z
    · intro p _
      generalize (bt 1 p && qt_ub qt_q0 p i) = b
      cases b <;> rfl
    · intro r _
      rw [b_0]; rfl
theorem qt_par_0 : upd (fun _ => 0) 0 (-1) = qt_par qt_q0 := by
  funext j
  by_cases e : j = 0
  · rw [e, pk_us]; rfl
  · rw [pk_un e]
    show (0 : Int32) = if j = 12 then 0 else qt_e (if j = 0 then 12 else if j = 12 then 12 else 0)
    by_cases b : j = 12
    · rw [if_pos b]
    · rw [if_neg b, if_neg e, if_neg b]; rfl
theorem qt_n_0 : (fun _ => 0) = qt_n (fun _ => 0) := rfl
theorem qt_l_0 : upd (fun _ => 0) 0 1000 = qt_n (qt_u (fun _ => 0) 0 1000) := qt_n_u (fun _ => 0) (i := 0) 1000 (by decide)
theorem qt_th_0 : upd (fun _ => 0) 0 (vp_nar .boolean 1) = qt_th 1 := by
  funext j
  show upd (fun _ => 0) 0 (vp_nar .boolean 1) j = qt_z (bt 1 j)
  rw [qt_b1, qt_nb1]
  by_cases e : j = 0
  · rw [e, pk_us]; rfl
  · rw [pk_un e, decide_eq_false e]; rfl
theorem qt_wh_0 : (fun _ => 0) = qt_wh 0 (fun _ => 0) := by
  funext j
  show (0 : Int32) = match bt 0 j with | true => nI (0 + 1) | false => (0 : Int32)
  rw [b_0]
theorem i_vc0 : wpX_init (fun u => wpY_init (fun v => i_Rel 0 u v)) := by
  have e1 : upd (fun _ => 0) 0 (vp_nar .byte (-1)) = qt_par qt_q0 := by
    rw [← qt_par_0, vp_nar_byte]
    rfl
  refine nm_r e1 (nm_r qt_l_0 (nm_r qt_th_0 (nm_r qt_par_0 (nm_r qt_l_0 ?_))))
  have R := qt_mk (k := 0) (bf := fun _ => 0) qt_i0
  unfold qt_y at R
  rw [← qt_wh_0] at R
  exact R
end
section
theorem i_vc_total {k : Nat} {u : SX} {v : SY} (I : i_Rel k u v) (hk : k + 3 ≤ 1536) (v1 : Int32) : wpX_total (fun r => wpY_total (fun r' => r' = r ∧ i_Rel (k + 3) u v) v v1) u v1 := by
  refine qt_el (P := fun u v => wpX_total (fun r => wpY_total (fun r' => r' = r ∧ i_Rel (k + 3) u v) v v1) u v1) ?_ I
  intro m op q Lm U W T own L bf H
  unfold wpX_total wpY_total
  dsimp only
  have R := qt_mk (k := k + 3) (bf := bf) H
  have Tr := qt_I_tr H
  rcases qt_hs m 12 v1 with ⟨i, hl, hb, rfl⟩ | h
  · refine qt_has1 hl hb (br_f qt_10 ⟨qt_in hl, ?_⟩)
    refine qt_is1 hl hb (br_f qt_10 (qt_yTot Tr (qt_I_ow H) hl ?_))
    exact ⟨by rw [qt_n_a T hl, qt_I_s H hb], R⟩
  · exact qt_has0 h (br_t rfl (qt_is0 h (br_t rfl ⟨rfl, R⟩)))
theorem i_vc_setLimit {k : Nat} {u : SX} {v : SY} (I : i_Rel k u v) (hk : k + 3 ≤ 1536) (v1 : Int32) (v2 : Int32) : wpX_setLimit (fun r u' => wpY_setLimit (fun r' v' => r' = r ∧ i_Rel (k + 3) u' v') v v1 v2) u v1 v2 := by
  refine qt_el (P := fun u v => wpX_setLimit (fun r u' => wpY_setLimit (fun r' v' => r' = r ∧ i_Rel (k + 3) u' v') v v1 v2) u v1 v2) ?_ I
  intro m op q Lm U W T own L bf H
  unfold wpX_setLimit wpY_setLimit
  dsimp only
  have R := qt_mk (k := k + 3) (bf := bf) H
  rcases qt_hs m 12 v1 with ⟨i, hl, hb, rfl⟩ | h
  · rcases qt_am v2 with ⟨n, hn, rfl⟩ | h2
    · refine qt_has1 hl hb (br_f qt_10 (qt_amt1 hn (br_f qt_10 ⟨qt_in hl, nm_r (qt_n_u Lm n hl) ?_⟩)))
      refine qt_is1 hl hb (br_f qt_10 (qt_yam1 hn (br_f qt_10 ⟨qt_in hl, nm_r (qt_n_u Lm n hl) ?_⟩)))
      exact ⟨rfl, qt_mk (qt_k_lim H hn)⟩
    · exact qt_has1 hl hb (br_f qt_10 (qt_amt0 h2 (br_t rfl (qt_is1 hl hb (br_f qt_10 (qt_yam0 h2 (br_t rfl ⟨rfl, R⟩)))))))
  · exact qt_has0 h (br_t rfl (qt_is0 h (br_t rfl ⟨rfl, R⟩)))
theorem i_vc_use {k : Nat} {u : SX} {v : SY} (I : i_Rel k u v) (hk : k + 3 ≤ 1536) (v1 : Int32) (v2 : Int32) : wpX_use (fun r u' => wpY_use (fun r' v' => r' = r ∧ i_Rel (k + 3) u' v') v v1 v2) u v1 v2 := by
  refine qt_el (P := fun u v => wpX_use (fun r u' => wpY_use (fun r' v' => r' = r ∧ i_Rel (k + 3) u' v') v v1 v2) u v1 v2) ?_ I
  intro m op q Lm U W T own L bf H
  unfold wpX_use wpY_use
  dsimp only
  have R := qt_mk (k := k + 3) (bf := bf) H
  have Tr := qt_I_tr H
  rcases qt_hs op 10 v1 with ⟨r, hl, hb, rfl⟩ | h
  · have O := qt_I_ow H r hb
    have hol := qt_tr_lt Tr O.2
    by_cases hneg : v2 < 0
    · exact qt_opn1 hl hb (br_f qt_10 (br_t hneg (qt_rsv1 hl hb hol (br_f qt_10 (br_t hneg ⟨rfl, R⟩)))))
    · obtain ⟨n, hn, rfl⟩ := nI_of hneg
      have hL := qt_I_lk H hb
      have el : qt_n L (nI r).toNatClampNeg = nI (L r) := qt_n_a L (by omega)
      have eo : qt_n own (nI r).toNatClampNeg = nI (own r) := qt_n_a own (by omega)
      have ew : qt_wh op own (nI r).toNatClampNeg - 1 = nI (own r) := by rw [qt_wh_t hl hb, nI_pred]
      refine qt_opn1 hl hb (br_f qt_10 (br_f hneg ⟨qt_in0 hl, ?_⟩))
      rw [el, eo]
      by_cases hle : n ≤ L r
      · have hle' : nI n ≤ nI (L r) := (nI_leI hn (by omega)).mpr hle
        have eL : upd (qt_n L) (nI r).toNatClampNeg (nI (L r) - nI n) = qt_n (qt_u L r (L r - n)) := by rw [pk_sub hle, qt_n_u L _ (by omega)]
        have eU : upd (qt_n U) (nI (own r)).toNatClampNeg (qt_n U (nI (own r)).toNatClampNeg + nI n) = qt_n (qt_u U (own r) (U (own r) + n)) := by rw [qt_n_a U hol, nI_add, qt_n_u U _ hol]
        refine br_t hle' ⟨qt_in0 hl, qt_in0 hl, nm_r eL ⟨qt_in0 hl, qt_in hol, qt_in hol, nm_r eU ⟨qt_in0 hl, ?_⟩⟩⟩
        refine qt_rsv1 hl hb hol (br_f qt_10 (br_f hneg ⟨qt_in0 hl, ?_⟩))
        rw [ew]
        refine br_t hle' ⟨qt_in0 hl, qt_in0 hl, nm_r eL ⟨qt_in0 hl, qt_in0 hl, qt_in hol, qt_in hol, nm_r eU ⟨qt_in0 hl, ?_⟩⟩⟩
        exact ⟨rfl, qt_mk (qt_k_use H hb hle)⟩
      · have hle' : ¬ nI n ≤ nI (L r) := fun h => hle ((nI_leI hn (by omega)).mp h)
        refine br_f hle' ?_
        refine qt_rsv1 hl hb hol (br_f qt_10 (br_f hneg ⟨qt_in0 hl, ?_⟩))
        exact br_f hle' ⟨rfl, R⟩
  · exact qt_opn0 h (br_t rfl (qt_rsv0 h (br_t rfl ⟨rfl, R⟩)))
theorem i_vc_release {k : Nat} {u : SX} {v : SY} (I : i_Rel k u v) (hk : k + 3 ≤ 1536) (v1 : Int32) (v2 : Int32) : wpX_release (fun r u' => wpY_release (fun r' v' => r' = r ∧ i_Rel (k + 3) u' v') v v1 v2) u v1 v2 := by
  refine qt_el (P := fun u v => wpX_release (fun r u' => wpY_release (fun r' v' => r' = r ∧ i_Rel (k + 3) u' v') v v1 v2) u v1 v2) ?_ I
  intro m op q Lm U W T own L bf H
  unfold wpX_release wpY_release
  dsimp only
  have R := qt_mk (k := k + 3) (bf := bf) H
  rcases qt_hs m 12 v1 with ⟨o, hl, hb, rfl⟩ | h
  · by_cases hneg : v2 < 0
    · exact qt_has1 hl hb (br_f qt_10 (br_t hneg (qt_is1 hl hb (br_f qt_10 (br_t hneg ⟨rfl, R⟩)))))
    · obtain ⟨n, hn, rfl⟩ := nI_of hneg
      have hU := qt_I_uwk H hb
      have eu : qt_n U (nI o).toNatClampNeg = nI (U o) := qt_n_a U hl
      refine qt_has1 hl hb (br_f qt_10 (br_f hneg ⟨qt_in hl, ?_⟩))
      rw [eu]
      by_cases hle : n ≤ U o
      · have hle' : nI n ≤ nI (U o) := (nI_leI hn (by omega)).mpr hle
        have eU : upd (qt_n U) (nI o).toNatClampNeg (nI (U o) - nI n) = qt_n (qt_u U o (U o - n)) := by rw [pk_sub hle, qt_n_u U _ hl]
        have eW : upd (qt_n W) (nI o).toNatClampNeg (qt_n W (nI o).toNatClampNeg + nI n) = qt_n (qt_u W o (W o + n)) := by rw [qt_n_a W hl, nI_add, qt_n_u W _ hl]
        refine br_t hle' ⟨qt_in hl, qt_in hl, nm_r eU ⟨qt_in hl, qt_in hl, nm_r eW ⟨qt_in hl, ?_⟩⟩⟩
        refine qt_is1 hl hb (br_f qt_10 (br_f hneg ⟨qt_in hl, ?_⟩))
        refine br_t hle' ⟨qt_in hl, qt_in hl, nm_r eU ⟨qt_in hl, qt_in hl, nm_r eW ⟨qt_in hl, ?_⟩⟩⟩
        exact ⟨rfl, qt_mk (qt_k_rel H hb hle)⟩
      · have hle' : ¬ nI n ≤ nI (U o) := fun h => hle ((nI_leI hn (by omega)).mp h)
        refine br_f hle' ?_
        refine qt_is1 hl hb (br_f qt_10 (br_f hneg ⟨qt_in hl, ?_⟩))
        exact br_f hle' ⟨rfl, R⟩
  · exact qt_has0 h (br_t rfl (qt_is0 h (br_t rfl ⟨rfl, R⟩)))
end
section
abbrev qt_cl (x : Int32) (r : Nat) : Int32 := x &&& (((1 : Int32) <<< (nI r &&& 31)) ^^^ (-1))
abbrev qt_st (x : Int32) (r : Nat) : Int32 := x ||| ((1 : Int32) <<< (nI r &&& 31))
section
variable {m op : Int32} {q Lm U W T own L : Nat → Nat} {bf : Nat → Int32}
theorem qt_xgiv1 {post : Int32 → SX → Prop} (H : qt_I m op q Lm U W T own L) {r : Nat} (hl : r < 10) (hb : bt op r = true) (hp : post (nI (L r)) (qt_x m (qt_cl op r) q Lm U W (qt_sb q (own r) (L r) T) own L)) : wpX_giveBack post (qt_x m op q Lm U W T own L) (nI r) := by
  have Tr := qt_I_tr H
  have O := qt_I_ow H r hb
  have el : qt_n L (nI r).toNatClampNeg = nI (L r) := qt_n_a L (by omega)
  have eo : qt_n own (nI r).toNatClampNeg = nI (own r) := qt_n_a own (by omega)
  unfold wpX_giveBack
  dsimp only
  refine qt_opn1 hl hb (br_f qt_10 (nm_e ⟨qt_in0 hl, qt_in0 hl, ?_⟩))
  rw [el, eo]
  refine qt_xCar Tr O.2 ?_
  rw [qt_cr_m (fun j hj => qt_I_l H hb hj)]
  rw [← el] at hp
  exact ⟨qt_in0 hl, hp⟩
theorem qt_xgiv0 {post : Int32 → SX → Prop} {v : Int32} (h : ∀ i, i < 10 → v = nI i → bt op i = false) (hp : post (-1) (qt_x m op q Lm U W T own L)) : wpX_giveBack post (qt_x m op q Lm U W T own L) v := by
  unfold wpX_giveBack
  dsimp only
  exact qt_opn0 h (br_t rfl hp)
end
theorem i_vc_giveBack {k : Nat} {u : SX} {v : SY} (I : i_Rel k u v) (hk : k + 3 ≤ 1536) (v1 : Int32) : wpX_giveBack (fun r u' => wpY_giveBack (fun r' v' => r' = r ∧ i_Rel (k + 3) u' v') v v1) u v1 := by
  refine qt_el (P := fun u v => wpX_giveBack (fun r u' => wpY_giveBack (fun r' v' => r' = r ∧ i_Rel (k + 3) u' v') v v1) u v1) ?_ I
  intro m op q Lm U W T own L bf H
  rcases qt_hs op 10 v1 with ⟨r, hl, hb, rfl⟩ | h
  · refine qt_xgiv1 H hl hb ?_
    unfold wpY_giveBack
    dsimp only
    refine qt_rsv1 hl hb (qt_tr_lt (qt_I_tr H) (qt_I_ow H r hb).2) (br_f qt_10 ⟨qt_in0 hl, nm_r (qt_wh_c op own (by omega)) ⟨qt_in0 hl, ?_⟩⟩)
    exact ⟨qt_n_a L (by omega), qt_mk (qt_k_giv H hb (qt_clr op (by omega)))⟩
  · refine qt_xgiv0 h ?_
    unfold wpY_giveBack
    dsimp only
    exact qt_rsv0 h (br_t rfl ⟨rfl, qt_mk H⟩)
theorem qt_rec {m : Int32} {q Lm U W own L : Nat → Nat} {bf : Nat → Int32} : ∀ (d r c : Nat) (op : Int32) (T : Nat → Nat), r + d = 10 → qt_I m op q Lm U W T own L →
    ∃ (c' : Nat) (op' : Int32) (T' : Nat → Nat), qt_I m op' q Lm U W T' own L
      ∧ (∀ post : Int32 → SX → Prop, post (nI c') (qt_x m op' q Lm U W T' own L) → wX_recover_4 post (d + 1) (nI c) (nI r) m op (qt_par q) (qt_n Lm) (qt_n U) (qt_n W) (qt_n T) (qt_n own) (qt_n L))
      ∧ (∀ post : Int32 → SY → Prop, post (nI c') (qt_y m op' q Lm U W own L bf) → wY_recover_4 post (d + 1) (nI c) (nI r) (qt_th m) (qt_par q) (qt_n Lm) (qt_n U) (qt_n W) (qt_wh op own) (qt_n L) bf) := by
  intro d
  induction d with
  | zero =>
    intro r c op T hr H
    have e : r = 10 := hr
    subst e
    exact ⟨c, op, T, H, fun post hp => br_t (qt_10t (by omega) (by omega)) hp, fun post hp => br_t (qt_10t (by omega) (by omega)) hp⟩
  | succ d ih =>
    intro r c op T hr H
    have hl : r < 10 := by omega
    have h1 : ¬ (10 : Int32) ≤ nI r := qt_10f hl
    cases hb : bt op r with
    | true =>
      have hL := qt_I_lk H hb
      have hol := qt_tr_lt (qt_I_tr H) (qt_I_ow H r hb).2
      obtain ⟨c', op', T', H', hX, hY⟩ := ih (r + 1) (c + 1) (qt_cl op r) (qt_sb q (own r) (L r) T) (by omega) (qt_k_giv H hb (qt_clr op (by omega)))
      refine ⟨c', op', T', H', ?_, ?_⟩
      · intro post hp
        refine br_f h1 (qt_xgiv1 H hl hb ?_)
        exact br_f (nI_pos (by omega)) (nm_r (nI_1 c) (nm_r (nI_1 r) (hX post hp)))
      · intro post hp
        refine br_f h1 ⟨qt_in0 hl, br_f (by rw [qt_wh_t hl hb]; exact nI_nle (by omega) (by omega)) ?_⟩
        rw [nI_1]
        refine ⟨qt_in0 hl, nm_r (qt_wh_c op own (by omega)) (nm_r (nI_1 r) (hY post hp))⟩
    | false =>
      obtain ⟨c', op', T', H', hX, hY⟩ := ih (r + 1) c op T (by omega) H
      refine ⟨c', op', T', H', ?_, ?_⟩
      · intro post hp
        refine br_f h1 (qt_xgiv0 (qt_at0 hl (by decide) hb) ?_)
        exact br_t (by decide) (nm_r (Int32.add_zero _) (nm_r (nI_1 r) (hX post hp)))
      · intro post hp
        have ew := qt_wh_f (own := own) hl hb
        refine br_f h1 ⟨qt_in0 hl, br_t (by rw [ew]; decide) ?_⟩
        refine ⟨qt_in0 hl, nm_r (e' := qt_wh op own) ?_ (nm_r (nI_1 r) (hY post hp))⟩
        have e2 := qt_upd_id (qt_wh op own) (nI r).toNatClampNeg
        rw [ew] at e2
        exact e2
theorem i_vc_recover {k : Nat} {u : SX} {v : SY} (I : i_Rel k u v) (hk : k + 3 ≤ 1536) : wpX_recover (fun r u' => wpY_recover (fun r' v' => r' = r ∧ i_Rel (k + 3) u' v') v) u := by
  refine qt_el (P := fun u v => wpX_recover (fun r u' => wpY_recover (fun r' v' => r' = r ∧ i_Rel (k + 3) u' v') v) u) ?_ I
  intro m op q Lm U W T own L bf H
  obtain ⟨c', op', T', H', hX, hY⟩ := qt_rec (bf := bf) 10 0 0 op T rfl H
  exact ⟨11, hX _ ⟨11, hY _ ⟨rfl, qt_mk H'⟩⟩⟩
theorem qt_fre {m op : Int32} {q Lm U own L : Nat → Nat} {bf : Nat → Int32} {o : Nat} (ho : o < 12) : ∀ (d p c : Nat) (W T : Nat → Nat), p + d = 12 → qt_I m op q Lm U W T own L →
    ∃ (c' : Nat) (W' T' : Nat → Nat), qt_I m op q Lm U W' T' own L
      ∧ (∀ post : Int32 → SX → Prop, post (nI c') (qt_x m op q Lm U W' T' own L) → wX_free_14 post (nI o) (d + 1) (nI c) (nI p) m op (qt_par q) (qt_n Lm) (qt_n U) (qt_n W) (qt_n T) (qt_n own) (qt_n L))
      ∧ (∀ post : Int32 → SY → Prop, post (nI c') (qt_y m op q Lm U W' own L bf) → wY_free_14 post (nI o) (d + 1) (nI c) (nI p) (qt_th m) (qt_par q) (qt_n Lm) (qt_n U) (qt_n W) (qt_wh op own) (qt_n L) bf) := by
  intro d
  induction d with
  | zero =>
    intro p c W T hp H
    have e : p = 12 := hp
    subst e
    exact ⟨c, W, T, H, fun post hp => br_t (qt_12t (by omega) (by omega)) hp, fun post hp => br_t (qt_12t (by omega) (by omega)) hp⟩
  | succ d ih =>
    intro p c W T hd H
    have hl : p < 12 := by omega
    have h1 : ¬ (12 : Int32) ≤ nI p := qt_12f hl
    have Tr := qt_I_tr H
    cases hb : bt m p with
    | false =>
      obtain ⟨c', W', T', H', hX, hY⟩ := ih (p + 1) c W T (by omega) H
      refine ⟨c', W', T', H', ?_, ?_⟩
      · intro post hp
        refine br_f h1 (qt_has0 (qt_at0 hl (by decide) hb) ?_)
        exact br_t rfl (nm_r (nI_1 p) (hX post hp))
      · intro post hp
        exact br_f h1 ⟨qt_in hl, br_t (qt_th_f hl hb) (nm_r (nI_1 p) (hY post hp))⟩
    | true =>
      cases hu : qt_ub q p o with
      | false =>
        obtain ⟨c', W', T', H', hX, hY⟩ := ih (p + 1) c W T (by omega) H
        refine ⟨c', W', T', H', ?_, ?_⟩
        · intro post hp
          refine br_f h1 (qt_has1 hl hb (br_f qt_10 (qt_xBel Tr hb ho ?_)))
          rw [hu]
          exact br_t rfl (nm_r (nI_1 p) (hX post hp))
        · intro post hp
          refine br_f h1 ⟨qt_in hl, br_f (qt_th_n hl hb) (qt_yUnd Tr hb ho ?_)⟩
          rw [hu]
          exact br_t rfl (nm_r (nI_1 p) (hY post hp))
      | true =>
        have ew : qt_n W (nI p).toNatClampNeg = nI (W p) := qt_n_a W hl
        obtain ⟨c', W', T', H', hX, hY⟩ := ih (p + 1) (c + W p) (qt_u W p 0) (qt_sb q p (W p) T) (by omega) (qt_k_fre H hb)
        refine ⟨c', W', T', H', ?_, ?_⟩
        · intro post hp
          refine br_f h1 (qt_has1 hl hb (br_f qt_10 (qt_xBel Tr hb ho ?_)))
          rw [hu, ew]
          refine br_f qt_10 ⟨qt_in hl, nm_r (nI_add c (W p)) ⟨qt_in hl, ?_⟩⟩
          refine qt_xCar Tr hb ?_
          rw [qt_cr_m (fun j hj => Nat.le_trans (Nat.le_add_left _ _) (qt_I_uw H hb hj))]
          exact ⟨qt_in hl, nm_r (qt_n_u W 0 hl) (nm_r (nI_1 p) (hX post hp))⟩
        · intro post hp
          refine br_f h1 ⟨qt_in hl, br_f (qt_th_n hl hb) (qt_yUnd Tr hb ho ?_)⟩
          rw [hu, ew]
          exact br_f qt_10 ⟨qt_in hl, nm_r (nI_add c (W p)) ⟨qt_in hl, nm_r (qt_n_u W 0 hl) (nm_r (nI_1 p) (hY post hp))⟩⟩
theorem i_vc_free {k : Nat} {u : SX} {v : SY} (I : i_Rel k u v) (hk : k + 3 ≤ 1536) (v1 : Int32) : wpX_free (fun r u' => wpY_free (fun r' v' => r' = r ∧ i_Rel (k + 3) u' v') v v1) u v1 := by
  refine qt_el (P := fun u v => wpX_free (fun r u' => wpY_free (fun r' v' => r' = r ∧ i_Rel (k + 3) u' v') v v1) u v1) ?_ I
  intro m op q Lm U W T own L bf H
  unfold wpX_free wpY_free
  dsimp only
  rcases qt_hs m 12 v1 with ⟨o, hl, hb, rfl⟩ | h
  · obtain ⟨c', W', T', H', hX, hY⟩ := qt_fre (bf := bf) hl 12 0 0 W T rfl H
    refine qt_has1 hl hb (br_f qt_10 ⟨13, hX _ ?_⟩)
    exact qt_is1 hl hb (br_f qt_10 ⟨13, hY _ ⟨rfl, qt_mk H'⟩⟩)
  · exact qt_has0 h (br_t rfl (qt_is0 h (br_t rfl ⟨rfl, qt_mk H⟩)))
end
section
/-! ===== sets of owners ===== -/
def qt_fs (f : Nat → Bool) : Nat → Int32
  | 0 => 0
  | n + 1 => match f n with
    | true => qt_fs f n ||| ((1 : Int32) <<< (nI n &&& 31))
    | false => qt_fs f n
theorem qt_fs_t {f : Nat → Bool} {n : Nat} (h : f n = true) : qt_fs f (n + 1) = qt_fs f n ||| ((1 : Int32) <<< (nI n &&& 31)) := by
  show (match f n with | true => qt_fs f n ||| ((1 : Int32) <<< (nI n &&& 31)) | false => qt_fs f n) = _
  rw [h]
theorem qt_fs_f {f : Nat → Bool} {n : Nat} (h : f n = false) : qt_fs f (n + 1) = qt_fs f n := by
  show (match f n with | true => qt_fs f n ||| ((1 : Int32) <<< (nI n &&& 31)) | false => qt_fs f n) = _
  rw [h]
theorem qt_fs_b {f : Nat → Bool} : ∀ n, n ≤ 12 → ∀ i, bt (qt_fs f n) i = (decide (i < n) && f i) := by
  intro n
  induction n with
  | zero => intro _ i; rw [decide_eq_false (Nat.not_lt_zero _)]; exact b_0 i
  | succ n ih =>
    intro hn i
    have h1 := ih (by omega) i
    cases hf : f n with
    | true =>
      rw [qt_fs_t hf, qt_set _ (by omega), h1]
      by_cases e : i = n
      · rw [e, hf, decide_eq_true rfl, decide_eq_true (show n < n + 1 by omega)]; simp
      · rw [decide_eq_false e, Bool.or_false]
        by_cases c : i < n
        · rw [decide_eq_true c, decide_eq_true (show i < n + 1 by omega)]
        · rw [decide_eq_false c, decide_eq_false (show ¬ i < n + 1 by omega)]
    | false =>
      rw [qt_fs_f hf, h1]
      by_cases e : i = n
      · rw [e, hf, Bool.and_false, Bool.and_false]
      · by_cases c : i < n
        · rw [decide_eq_true c, decide_eq_true (show i < n + 1 by omega)]
        · rw [decide_eq_false c, decide_eq_false (show ¬ i < n + 1 by omega)]
noncomputable abbrev qt_bl (m : Int32) (q : Nat → Nat) (o : Nat) : Nat → Bool := fun p => bt m p && qt_ub q p o
section
variable {m op : Int32} {q : Nat → Nat} {lim us wa tot ow lf wh rs bf : Nat → Int32} {post : Int32 → Prop}
theorem qt_xblw {o : Nat} (Tr : qt_Tr m q) (hb : bt m o = true) (hp : post (qt_fs (qt_bl m q o) 12)) : ∀ d p, p + d = 12 → wX_below_4 post (nI o) m op (qt_par q) lim us wa tot ow lf (d + 1) (qt_fs (qt_bl m q o) p) (nI p) := by
  have hol := qt_tr_lt Tr hb
  intro d
  induction d with
  | zero =>
    intro p hd
    have e : p = 12 := hd
    subst e
    exact br_t (qt_12t (by omega) (by omega)) hp
  | succ d ih =>
    intro p hd
    have hl : p < 12 := by omega
    have K := ih (p + 1) (by omega)
    refine br_f (qt_12f hl) (qt_has1 hol hb (br_f qt_10 ?_))
    cases hm : bt m p with
    | false =>
      rw [qt_fs_f (by show (bt m p && qt_ub q p o) = false; rw [hm]; rfl)] at K
      refine qt_has0 (qt_at0 hl (by decide) hm) ?_
      exact br_t rfl (nm_r (qt_or0 _) (nm_r (nI_1 p) K))
    | true =>
      refine qt_has1 hl hm (br_f qt_10 (qt_xBel Tr hm hol ?_))
      cases hu : qt_ub q p o with
      | false =>
        rw [qt_fs_f (by show (bt m p && qt_ub q p o) = false; rw [hu, Bool.and_false])] at K
        exact br_t rfl (nm_r (qt_or0 _) (nm_r (nI_1 p) K))
      | true =>
        rw [qt_fs_t (by show (bt m p && qt_ub q p o) = true; rw [hu, hm]; rfl)] at K
        exact br_f qt_10 (nm_e (nm_r (nI_1 p) K))
theorem qt_xBlw {o : Nat} (Tr : qt_Tr m q) (hb : bt m o = true) (hp : post (qt_fs (qt_bl m q o) 12)) : wpX_below post (m, op, qt_par q, lim, us, wa, tot, ow, lf) (nI o) :=
  ⟨13, qt_xblw Tr hb hp 12 0 rfl⟩
theorem qt_yblw {o : Nat} (Tr : qt_Tr m q) (hb : bt m o = true) (hp : post (qt_fs (qt_bl m q o) 12)) : ∀ d p, p + d = 12 → wY_below_4 post (nI o) (qt_th m) (qt_par q) lim us wa wh rs bf (d + 1) (qt_fs (qt_bl m q o) p) (nI p) := by
  have hol := qt_tr_lt Tr hb
  intro d
  induction d with
  | zero =>
    intro p hd
    have e : p = 12 := hd
    subst e
    exact br_t (qt_12t (by omega) (by omega)) hp
  | succ d ih =>
    intro p hd
    have hl : p < 12 := by omega
    have K := ih (p + 1) (by omega)
    refine br_f (qt_12f hl) (qt_is1 hol hb (br_f qt_10 ⟨qt_in hl, ?_⟩))
    cases hm : bt m p with
    | false =>
      rw [qt_fs_f (by show (bt m p && qt_ub q p o) = false; rw [hm]; rfl)] at K
      exact br_t (qt_th_f hl hm) (nm_r (nI_1 p) K)
    | true =>
      refine br_f (qt_th_n hl hm) (qt_yUnd Tr hm hol ?_)
      cases hu : qt_ub q p o with
      | false =>
        rw [qt_fs_f (by show (bt m p && qt_ub q p o) = false; rw [hu, Bool.and_false])] at K
        exact br_t rfl (nm_r (nI_1 p) K)
      | true =>
        rw [qt_fs_t (by show (bt m p && qt_ub q p o) = true; rw [hu, hm]; rfl)] at K
        exact br_f qt_10 (nm_e (nm_r (nI_1 p) K))
end
theorem i_vc_below {k : Nat} {u : SX} {v : SY} (I : i_Rel k u v) (hk : k + 3 ≤ 1536) (v1 : Int32) : wpX_below (fun r => wpY_below (fun r' => r' = r ∧ i_Rel (k + 3) u v) v v1) u v1 := by
  refine qt_el (P := fun u v => wpX_below (fun r => wpY_below (fun r' => r' = r ∧ i_Rel (k + 3) u v) v v1) u v1) ?_ I
  intro m op q Lm U W T own L bf H
  have R := qt_mk (k := k + 3) (bf := bf) H
  have Tr := qt_I_tr H
  rcases qt_hs m 12 v1 with ⟨o, hl, hb, rfl⟩ | h
  · exact qt_xBlw Tr hb ⟨13, qt_yblw Tr hb ⟨rfl, R⟩ 12 0 rfl⟩
  · have h1 : ¬ (12 : Int32) ≤ 0 := by decide
    refine ⟨1, br_f h1 (qt_has0 h (br_t rfl ?_))⟩
    exact ⟨1, br_f h1 (qt_is0 h (br_t rfl ⟨rfl, R⟩))⟩
/-! ===== over ===== -/
def qt_ov (m : Int32) (T Lm : Nat → Nat) : Nat → Bool := fun p => bt m p && !decide (nI (T p) ≤ nI (Lm p))
theorem qt_ov_a {m : Int32} {T Lm : Nat → Nat} {p : Nat} (h : bt m p = false) : qt_ov m T Lm p = false := by unfold qt_ov; rw [h]; rfl
theorem qt_ov_f {m : Int32} {T Lm : Nat → Nat} {p : Nat} (h : nI (T p) ≤ nI (Lm p)) : qt_ov m T Lm p = false := by unfold qt_ov; rw [decide_eq_true h]; simp
theorem qt_ov_t {m : Int32} {T Lm : Nat → Nat} {p : Nat} (hm : bt m p = true) (h : ¬ nI (T p) ≤ nI (Lm p)) : qt_ov m T Lm p = true := by unfold qt_ov; rw [hm, decide_eq_false h]; rfl
section
variable {m op : Int32} {q Lm U W T own L : Nat → Nat} {bf : Nat → Int32} {post : Int32 → Prop}
theorem qt_xov (hp : post (qt_fs (qt_ov m T Lm) 12)) : ∀ d p, p + d = 12 → wX_over_4 post m op (qt_par q) (qt_n Lm) (qt_n U) (qt_n W) (qt_n T) (qt_n own) (qt_n L) (d + 1) (qt_fs (qt_ov m T Lm) p) (nI p) := by
  intro d
  induction d with
  | zero =>
    intro p hd
    have e : p = 12 := hd
    subst e
    exact br_t (qt_12t (by omega) (by omega)) hp
  | succ d ih =>
    intro p hd
    have hl : p < 12 := by omega
    have K := ih (p + 1) (by omega)
    refine br_f (qt_12f hl) ?_
    cases hm : bt m p with
    | false =>
      rw [qt_fs_f (qt_ov_a hm)] at K
      refine qt_has0 (qt_at0 hl (by decide) hm) ?_
      exact br_t rfl (nm_r (qt_or0 _) (nm_r (nI_1 p) K))
    | true =>
      refine qt_has1 hl hm (br_f qt_10 ⟨qt_in hl, qt_in hl, ?_⟩)
      rw [qt_n_a T hl, qt_n_a Lm hl]
      by_cases c : nI (T p) ≤ nI (Lm p)
      · rw [qt_fs_f (qt_ov_f c)] at K
        exact br_t c (nm_r (qt_or0 _) (nm_r (nI_1 p) K))
      · rw [qt_fs_t (qt_ov_t hm c)] at K
        exact br_f c (nm_e (nm_r (nI_1 p) K))
theorem qt_yov (H : qt_I m op q Lm U W T own L) (hp : post (qt_fs (qt_ov m T Lm) 12)) : ∀ d p, p + d = 12 → wY_over_4 post (qt_th m) (qt_par q) (qt_n Lm) (qt_n U) (qt_n W) (qt_wh op own) (qt_n L) bf (d + 1) (qt_fs (qt_ov m T Lm) p) (nI p) := by
  have Tr := qt_I_tr H
  intro d
  induction d with
  | zero =>
    intro p hd
    have e : p = 12 := hd
    subst e
    exact br_t (qt_12t (by omega) (by omega)) hp
  | succ d ih =>
    intro p hd
    have hl : p < 12 := by omega
    have K := ih (p + 1) (by omega)
    refine br_f (qt_12f hl) ⟨qt_in hl, ?_⟩
    cases hm : bt m p with
    | false =>
      rw [qt_fs_f (qt_ov_a hm)] at K
      exact br_t (qt_th_f hl hm) (nm_r (nI_1 p) K)
    | true =>
      refine br_f (qt_th_n hl hm) (qt_yTot Tr (qt_I_ow H) hl ⟨qt_in hl, ?_⟩)
      rw [← qt_I_s H hm, qt_n_a Lm hl]
      by_cases c : nI (T p) ≤ nI (Lm p)
      · rw [qt_fs_f (qt_ov_f c)] at K
        exact br_t c (nm_r (nI_1 p) K)
      · rw [qt_fs_t (qt_ov_t hm c)] at K
        exact br_f c (nm_e (nm_r (nI_1 p) K))
end
theorem i_vc_over {k : Nat} {u : SX} {v : SY} (I : i_Rel k u v) (hk : k + 3 ≤ 1536) : wpX_over (fun r => wpY_over (fun r' => r' = r ∧ i_Rel (k + 3) u v) v) u := by
  refine qt_el (P := fun u v => wpX_over (fun r => wpY_over (fun r' => r' = r ∧ i_Rel (k + 3) u v) v) u) ?_ I
  intro m op q Lm U W T own L bf H
  exact ⟨13, qt_xov ⟨13, qt_yov H ⟨rfl, qt_mk H⟩ 12 0 rfl⟩ 12 0 rfl⟩
end
section
/-! ===== remove ===== -/
def qt_al (f : Nat → Bool) : Nat → Bool
  | 0 => true
  | n + 1 => qt_al f n && !f n
theorem qt_al_s (f : Nat → Bool) (n : Nat) : qt_al f (n + 1) = (qt_al f n && !f n) := rfl
theorem qt_al_i {f : Nat → Bool} : ∀ n, qt_al f n = true ↔ ∀ i, i < n → f i = false := by
  intro n
  induction n with
  | zero => exact ⟨fun _ i h => absurd h (Nat.not_lt_zero _), fun _ => rfl⟩
  | succ n ih =>
    rw [qt_al_s, Bool.and_eq_true_iff, ih]
    constructor
    · intro ⟨h1, h2⟩ i hi
      by_cases e : i = n
      · rw [e]
        cases hf : f n with
        | true => rw [hf] at h2; exact absurd h2 (by decide)
        | false => rfl
      · exact h1 i (by omega)
    · intro h
      exact ⟨fun i hi => h i (by omega), by rw [h n (by omega)]; rfl⟩
theorem qt_e_eq {x o : Nat} (hx : x ≤ 12) (ho : o < 12) : qt_e x = nI o ↔ x = o := by
  by_cases e : x = 12
  · subst e
    constructor
    · intro h
      have h1 := qt_e_ng
      rw [h] at h1
      exact absurd h1 (qt_ng ho)
    · intro h; omega
  · rw [qt_e_lt (by omega), nI_eq (by omega) (by omega)]
abbrev qt_kid (m : Int32) (q : Nat → Nat) (o : Nat) : Nat → Bool := fun p => bt m p && decide (q p = o)
theorem qt_nz (b : Bool) : narrow .boolean (.int (qt_z b)) = .int (qt_z b) := by
  cases b <;> rfl
theorem qt_yal {m : Int32} {q : Nat → Nat} {lim us wa wh rs bf : Nat → Int32} {post : Int32 → Prop} {o : Nat} (hq : ∀ x, q x ≤ 12) (ho : o < 12) (hp : post (qt_z (qt_al (qt_kid m q o) 12))) : ∀ d p, p + d = 12 → wY_alone_4 post (nI o) (qt_th m) (qt_par q) lim us wa wh rs bf (d + 1) (qt_z (qt_al (qt_kid m q o) p)) (nI p) := by
  intro d
  induction d with
  | zero =>
    intro p hd
    have e : p = 12 := hd
    subst e
    exact br_t (qt_12t (by omega) (by omega)) ⟨qt_nz _, hp⟩
  | succ d ih =>
    intro p hd
    have hl : p < 12 := by omega
    have K := ih (p + 1) (by omega)
    rw [qt_al_s] at K
    refine br_f (qt_12f hl) ?_
    cases ha : qt_al (qt_kid m q o) p with
    | false =>
      rw [ha, Bool.false_and] at K
      exact br_t rfl (nm_r (nI_1 p) K)
    | true =>
      rw [ha, Bool.true_and] at K
      refine br_f qt_10 ⟨qt_in hl, ?_⟩
      cases hm : bt m p with
      | false =>
        have e : qt_kid m q o p = false := by show (bt m p && decide (q p = o)) = false; rw [hm]; rfl
        rw [e] at K
        exact br_t (qt_th_f hl hm) (nm_r (nI_1 p) K)
      | true =>
        refine br_f (qt_th_n hl hm) ⟨qt_in hl, ?_⟩
        rw [qt_par_a q hl]
        by_cases c : q p = o
        · have e : qt_kid m q o p = true := by show (bt m p && decide (q p = o)) = true; rw [hm, decide_eq_true c]; rfl
          rw [e] at K
          exact br_t ((qt_e_eq (hq p) ho).mpr c) (nm_r (nI_1 p) K)
        · have e : qt_kid m q o p = false := by show (bt m p && decide (q p = o)) = false; rw [decide_eq_false c, Bool.and_false]
          rw [e] at K
          exact br_f (fun h => c ((qt_e_eq (hq p) ho).mp h)) (nm_r (nI_1 p) K)
/-- only o itself below o: no child -/
theorem qt_lone {m : Int32} {q : Nat → Nat} (Tr : qt_Tr m q) {o : Nat} (ho : bt m o = true) : qt_fs (qt_bl m q o) 12 = ((1 : Int32) <<< (nI o &&& 31)) ↔ qt_al (qt_kid m q o) 12 = true := by
  have hol := qt_tr_lt Tr ho
  rw [qt_al_i]
  constructor
  · intro h i hi
    cases hm : bt m i with
    | false => show (bt m i && decide (q i = o)) = false; rw [hm]; rfl
    | true =>
      show (bt m i && decide (q i = o)) = false
      by_cases c : q i = o
      · exfalso
        have h1 : bt (qt_fs (qt_bl m q o) 12) i = true := by
          rw [qt_fs_b 12 (by decide), decide_eq_true hi]
          show (true && (bt m i && qt_ub q i o)) = true
          rw [hm, qt_ub_up (by rw [c]; exact qt_ub_rf hol)]; rfl
        rw [h, qt_bs (by omega)] at h1
        have e : i = o := of_decide_eq_true h1
        have h2 := qt_tr_ac Tr hm
        rw [c, e, qt_ub_rf hol] at h2
        exact absurd h2 (by decide)
      · rw [decide_eq_false c, Bool.and_false]
  · intro h
    apply b_ext
    intro i _
    rw [qt_fs_b 12 (by decide), qt_bs (by omega)]
    show (decide (i < 12) && (bt m i && qt_ub q i o)) = decide (i = o)
    by_cases e : i = o
    · rw [e, ho, qt_ub_rf hol, decide_eq_true hol, decide_eq_true rfl]; rfl
    · rw [decide_eq_false e]
      cases hm : bt m i with
      | false => rw [Bool.false_and, Bool.and_false]
      | true =>
        cases hu : qt_ub q i o with
        | false => rw [Bool.and_false, Bool.and_false]
        | true =>
          exfalso
          obtain ⟨c, hc, e2⟩ := qt_tr_ch Tr hm hu e
          have h1 := h c (qt_tr_lt Tr hc)
          have h2 : (bt m c && decide (q c = o)) = false := h1
          rw [hc, decide_eq_true e2] at h2
          exact absurd h2 (by decide)
theorem qt_rml {m : Int32} {own : Nat → Nat} {th par up lim us wa tot lf rs bf : Nat → Int32} {o : Nat} (ho : o < 12) : ∀ (d r : Nat) (op : Int32), r + d = 10 → (∀ j, bt op j = true → j < 10 ∧ own j < 12) →
    ∃ op' : Int32, (∀ j, bt op' j = (bt op j && !(decide (r ≤ j) && decide (own j = o))))
      ∧ (∀ post : Int32 → SX → Prop, post 1 (m, op', par, lim, us, wa, tot, qt_n own, lf) → wX_remove_50 post (nI o) m par lim us wa tot (qt_n own) lf (d + 1) (nI r) op)
      ∧ (∀ post : Int32 → SY → Prop, post 1 (th, up, lim, us, wa, qt_wh op' own, rs, bf) → wY_remove_39 post (nI o) (d + 1) (nI r) th up lim us wa (qt_wh op own) rs bf) := by
  intro d
  induction d with
  | zero =>
    intro r op hr hO
    have e : r = 10 := hr
    subst e
    refine ⟨op, ?_, fun post hp => br_t (qt_10t (by omega) (by omega)) hp, fun post hp => br_t (qt_10t (by omega) (by omega)) hp⟩
    intro j
    cases hb : bt op j with
    | false => rfl
    | true => rw [decide_eq_false (show ¬ 10 ≤ j by have := hO j hb; omega)]; rfl
  | succ d ih =>
    intro r op hr hO
    have hl : r < 10 := by omega
    have h1 : ¬ (10 : Int32) ≤ nI r := qt_10f hl
    have eo : qt_n own (nI r).toNatClampNeg = nI (own r) := qt_n_a own (by omega)
    have eid := qt_upd_id (qt_wh op own) (nI r).toNatClampNeg
    by_cases hc : bt op r = true ∧ own r = o
    · obtain ⟨hb, hw⟩ := hc
      obtain ⟨op', hb', hX, hY⟩ := ih (r + 1) (qt_cl op r) (by omega) (by
        intro j hj
        rw [qt_clr op (by omega)] at hj
        exact hO j (Bool.and_eq_true_iff.mp hj).1)
      refine ⟨op', ?_, ?_, ?_⟩
      · intro j
        rw [hb', qt_clr op (by omega)]
        by_cases e : j = r
        · rw [e, hw, hb, decide_eq_true rfl, decide_eq_true (Nat.le_refl r), decide_eq_true rfl]; simp
        · rw [decide_eq_false e, Bool.not_false, Bool.and_true]
          by_cases c : r ≤ j
          · rw [decide_eq_true c, decide_eq_true (show r + 1 ≤ j by omega)]
          · rw [decide_eq_false c, decide_eq_false (show ¬ r + 1 ≤ j by omega)]
      · intro post hp
        refine br_f h1 (qt_opn1 hl hb (br_f qt_10 ⟨qt_in0 hl, ?_⟩))
        rw [eo, hw]
        exact br_t rfl (nm_e (nm_r (nI_1 r) (hX post hp)))
      · intro post hp
        refine br_f h1 ⟨qt_in0 hl, br_t (by rw [qt_wh_t hl hb, hw, nI_1]) ⟨qt_in0 hl, nm_r (qt_wh_c op own (by omega)) (nm_r (nI_1 r) (hY post hp))⟩⟩
    · obtain ⟨op', hb', hX, hY⟩ := ih (r + 1) op (by omega) hO
      refine ⟨op', ?_, ?_, ?_⟩
      · intro j
        rw [hb']
        by_cases e : j = r
        · rw [e, decide_eq_false (show ¬ r + 1 ≤ r by omega), decide_eq_true (Nat.le_refl r)]
          cases hb : bt op r with
          | false => rfl
          | true => rw [decide_eq_false (fun hw => hc ⟨hb, hw⟩)]; rfl
        · by_cases c : r ≤ j
          · rw [decide_eq_true c, decide_eq_true (show r + 1 ≤ j by omega)]
          · rw [decide_eq_false c, decide_eq_false (show ¬ r + 1 ≤ j by omega)]
      · intro post hp
        cases hb : bt op r with
        | false => exact br_f h1 (qt_opn0 (qt_at0 hl (by decide) hb) (br_t rfl (nm_r (nI_1 r) (hX post hp))))
        | true =>
          have hw : own r ≠ o := fun hw => hc ⟨hb, hw⟩
          refine br_f h1 (qt_opn1 hl hb (br_f qt_10 ⟨qt_in0 hl, ?_⟩))
          rw [eo]
          exact br_f (qt_ne (hO r hb).2 ho hw) (nm_r (nI_1 r) (hX post hp))
      · intro post hp
        refine br_f h1 ⟨qt_in0 hl, br_f ?_ ⟨qt_in0 hl, qt_in0 hl, nm_r eid (nm_r (nI_1 r) (hY post hp))⟩⟩
        rw [nI_1]
        cases hb : bt op r with
        | false =>
          rw [qt_wh_f hl hb]
          intro e
          exact nI_ne0 (n := o + 1) (by omega) (by omega) e.symm
        | true =>
          have hw : own r ≠ o := fun hw => hc ⟨hb, hw⟩
          have h2 := (hO r hb).2
          rw [qt_wh_t hl hb, nI_eq (by omega) (by omega)]
          omega
theorem i_vc_remove {k : Nat} {u : SX} {v : SY} (I : i_Rel k u v) (hk : k + 3 ≤ 1536) (v1 : Int32) : wpX_remove (fun r u' => wpY_remove (fun r' v' => r' = r ∧ i_Rel (k + 3) u' v') v v1) u v1 := by
  refine qt_el (P := fun u v => wpX_remove (fun r u' => wpY_remove (fun r' v' => r' = r ∧ i_Rel (k + 3) u' v') v v1) u v1) ?_ I
  intro m op q Lm U W T own L bf H
  have R := qt_mk (k := k + 3) (bf := bf) H
  have Tr := qt_I_tr H
  unfold wpX_remove wpY_remove
  dsimp only
  by_cases hz : v1 = 0
  · exact br_t hz (br_t hz ⟨rfl, R⟩)
  · rcases qt_hs m 12 v1 with ⟨o, hl, hb, rfl⟩ | h
    · have h0 : o ≠ 0 := fun e => hz (by rw [e]; rfl)
      refine br_f hz (qt_has1 hl hb (br_f qt_10 ⟨qt_in hl, ?_⟩))
      rw [qt_n_a T hl]
      by_cases hT : nI (T o) = 0
      · have hT0 : T o = 0 := (nI_eq (a := T o) (b := 0) (by have := qt_I_tk H hb; omega) (by omega)).mp hT
        refine br_t hT (qt_xBlw Tr hb ?_)
        have hlone := qt_lone Tr hb
        have hYal : ∀ post : Int32 → Prop, post (qt_z (qt_al (qt_kid m q o) 12)) → wpY_alone post (qt_y m op q Lm U W own L bf) (nI o) := fun post hp => ⟨13, qt_yal (qt_tr_le Tr) hl hp 12 0 rfl⟩
        by_cases hc : qt_fs (qt_bl m q o) 12 = ((1 : Int32) <<< (nI o &&& 31))
        · refine br_t hc (nm_e ?_)
          have hal := hlone.mp hc
          obtain ⟨op', hb', hX, hY⟩ := qt_rml (m := qt_cl m o) (own := own) (th := qt_th (qt_cl m o)) (par := qt_par q) (up := qt_par q) (lim := qt_n Lm) (us := qt_n U) (wa := qt_n W) (tot := qt_n T) (lf := qt_n L) (rs := qt_n L) (bf := bf) hl 10 0 op rfl (fun j hj => ⟨(qt_I_ow H j hj).1, qt_tr_lt Tr (qt_I_ow H j hj).2⟩)
          refine ⟨11, hX _ ?_⟩
          refine br_f hz (qt_is1 hl hb (br_f qt_10 (qt_yTot Tr (qt_I_ow H) hl ?_)))
          rw [← qt_I_s H hb]
          refine br_t hT (hYal _ ?_)
          rw [hal]
          refine br_f qt_10 ⟨qt_in hl, nm_r (qt_th_c m hl) ⟨11, hY _ ⟨rfl, ?_⟩⟩⟩
          refine qt_mk (qt_k_rem H h0 hb hT0 ?_ (qt_clr m (by omega)) ?_)
          · intro c hcb e
            have h1 := (qt_al_i 12).mp hal c (qt_tr_lt Tr hcb)
            have h2 : (bt m c && decide (q c = o)) = false := h1
            rw [hcb, decide_eq_true e] at h2
            exact absurd h2 (by decide)
          · intro j
            rw [hb', decide_eq_true (Nat.zero_le j), Bool.true_and]
        · refine br_f hc ?_
          have hal : qt_al (qt_kid m q o) 12 = false := Bool.eq_false_iff.mpr (fun h => hc (hlone.mpr h))
          refine br_f hz (qt_is1 hl hb (br_f qt_10 (qt_yTot Tr (qt_I_ow H) hl ?_)))
          rw [← qt_I_s H hb]
          refine br_t hT (hYal _ ?_)
          rw [hal]
          exact br_t rfl ⟨rfl, R⟩
      · refine br_f hT ?_
        refine br_f hz (qt_is1 hl hb (br_f qt_10 (qt_yTot Tr (qt_I_ow H) hl ?_)))
        rw [← qt_I_s H hb]
        exact br_f hT ⟨rfl, R⟩
    · exact br_f hz (qt_has0 h (br_t rfl (br_f hz (qt_is0 h (br_t rfl ⟨rfl, R⟩)))))
end
section
/-! ===== add ===== -/
theorem qt_fst (f : Nat → Bool) (a : Nat) : ∀ d, (∀ j, a ≤ j → j < a + d → f j = true) ∨ ∃ o, a ≤ o ∧ o < a + d ∧ f o = false ∧ ∀ j, a ≤ j → j < o → f j = true := by
  intro d
  induction d with
  | zero => exact Or.inl (fun j h1 h2 => by omega)
  | succ d ih =>
    rcases ih with h | ⟨o, h1, h2, h3, h4⟩
    · cases hf : f (a + d) with
      | true =>
        refine Or.inl (fun j h1 h2 => ?_)
        by_cases e : j = a + d
        · rw [e]; exact hf
        · exact h j h1 (by omega)
      | false => exact Or.inr ⟨a + d, by omega, by omega, hf, h⟩
    · exact Or.inr ⟨o, h1, by omega, h3, h4⟩
section
variable {m op : Int32} {x1 x2 : Int32}
theorem qt_xadd {par lim us wa tot ow lf : Nat → Int32} {post : Int32 → SX → Prop} {n : Nat} : ∀ d i, (∀ j, i ≤ j → j < i + d → bt m j = true) → i + d ≤ 12 → wX_add_19 post x1 x2 m op par lim us wa tot ow lf n (nI (i + d)) → wX_add_19 post x1 x2 m op par lim us wa tot ow lf (n + d) (nI i) := by
  intro d
  induction d with
  | zero => intro i _ _ h; exact h
  | succ d ih =>
    intro i hb hd h
    rw [show i + (d + 1) = i + 1 + d by omega] at h
    have K := ih (i + 1) (fun j h1 h2 => hb j (by omega) (by omega)) (by omega) h
    refine br_f (qt_12f (by omega)) (qt_has1 (by omega) (hb i (Nat.le_refl i) (by omega)) ?_)
    exact br_f qt_10 (nm_r (nI_1 i) K)
theorem qt_yadd {up lim us wa wh rs bf : Nat → Int32} {post : Int32 → SY → Prop} {n : Nat} : ∀ d i, (∀ j, i ≤ j → j < i + d → bt m j = true) → i + d ≤ 12 → wY_add_20 post x1 x2 (qt_th m) up lim us wa wh rs bf n (nI (i + d)) → wY_add_20 post x1 x2 (qt_th m) up lim us wa wh rs bf (n + d) (nI i) := by
  intro d
  induction d with
  | zero => intro i _ _ h; exact h
  | succ d ih =>
    intro i hb hd h
    rw [show i + (d + 1) = i + 1 + d by omega] at h
    have K := ih (i + 1) (fun j h1 h2 => hb j (by omega) (by omega)) (by omega) h
    have hl : i < 12 := by omega
    exact br_f (qt_12f hl) ⟨qt_in hl, br_f (qt_th_n hl (hb i (Nat.le_refl i) (by omega))) (nm_r (nI_1 i) K)⟩
end
theorem i_vc_add {k : Nat} {u : SX} {v : SY} (I : i_Rel k u v) (hk : k + 3 ≤ 1536) (v1 : Int32) (v2 : Int32) : wpX_add (fun r u' => wpY_add (fun r' v' => r' = r ∧ i_Rel (k + 3) u' v') v v1 v2) u v1 v2 := by
  refine qt_el (P := fun u v => wpX_add (fun r u' => wpY_add (fun r' v' => r' = r ∧ i_Rel (k + 3) u' v') v v1 v2) u v1 v2) ?_ I
  intro m op q Lm U W T own L bf H
  have R := qt_mk (k := k + 3) (bf := bf) H
  have Tr := qt_I_tr H
  unfold wpX_add wpY_add
  dsimp only
  rcases qt_hs m 12 v1 with ⟨a, hl, hb, rfl⟩ | h
  · rcases qt_am v2 with ⟨n, hn, rfl⟩ | h2
    · refine qt_has1 hl hb (br_f qt_10 (qt_amt1 hn (br_f qt_10 ?_)))
      rcases qt_fst (bt m) 1 11 with hall | ⟨o, h1, h12, hf, hbel⟩
      · refine ⟨1 + 12, qt_xadd 12 0 ?_ (by omega) ?_⟩
        · intro j _ hj
          by_cases e : j = 0
          · rw [e]; exact qt_tr_0 Tr
          · exact hall j (by omega) (by omega)
        · refine br_t (qt_12t (by omega) (by omega)) ?_
          refine qt_is1 hl hb (br_f qt_10 (qt_yam1 hn (br_f qt_10 ?_)))
          refine ⟨1 + 11, qt_yadd 11 1 hall (by omega) ?_⟩
          exact br_t (qt_12t (by omega) (by omega)) ⟨rfl, R⟩
      · have hol : o < 12 := by omega
        refine ⟨1 + o, qt_xadd o 0 ?_ (by omega) ?_⟩
        · intro j _ hj
          by_cases e : j = 0
          · rw [e]; exact qt_tr_0 Tr
          · exact hbel j (by omega) (by omega)
        · rw [Nat.zero_add]
          refine br_f (qt_12f hol) (qt_has0 (qt_at0 hol (by decide) hf) ?_)
          refine br_t rfl (nm_e ⟨qt_in hol, nm_r (qt_par_b q hol hl) ⟨qt_in hol, nm_r (qt_n_u Lm n hol) ⟨qt_in hol, nm_r (qt_n_u U 0 hol) ⟨qt_in hol, nm_r (qt_n_u W 0 hol) ⟨qt_in hol, nm_r (qt_n_u T 0 hol) ?_⟩⟩⟩⟩⟩)
          refine qt_is1 hl hb (br_f qt_10 (qt_yam1 hn (br_f qt_10 ?_)))
          refine ⟨1 + (o - 1), qt_yadd (o - 1) 1 ?_ (by omega) ?_⟩
          · intro j hj1 hj2
            exact hbel j hj1 (by omega)
          · rw [show 1 + (o - 1) = o by omega]
            have eP : upd (qt_par q) (nI o).toNatClampNeg (nI a) = qt_par (qt_u q o a) := by
              rw [← qt_e_lt hl]; exact qt_par_u q hol (by omega)
            refine br_f (qt_12f hol) ⟨qt_in hol, br_t (qt_th_f hol hf) ⟨qt_in hol, nm_r (qt_th_s m hol) ⟨qt_in hol, nm_r eP ⟨qt_in hol, nm_r (qt_n_u Lm n hol) ⟨qt_in hol, nm_r (qt_n_u U 0 hol) ⟨qt_in hol, nm_r (qt_n_u W 0 hol) ?_⟩⟩⟩⟩⟩⟩
            exact ⟨rfl, qt_mk (qt_k_add H hol hf hb (qt_set m (by omega)) hn)⟩
    · exact qt_has1 hl hb (br_f qt_10 (qt_amt0 h2 (br_t rfl (qt_is1 hl hb (br_f qt_10 (qt_yam0 h2 (br_t rfl ⟨rfl, R⟩)))))))
  · exact qt_has0 h (br_t rfl (qt_is0 h (br_t rfl ⟨rfl, R⟩)))
end
section
/-! ===== the nearest owner in the way ===== -/
def qt_bk (q T Lm : Nat → Nat) (n : Nat) : Nat → Nat → Int32
  | 0, _ => -1
  | d + 1, x => if x < 12 then (if T x + n ≤ Lm x then qt_bk q T Lm n d (q x) else nI x) else -1
theorem qt_bk_n {q T Lm : Nat → Nat} {n d x : Nat} (h : ¬ x < 12) : qt_bk q T Lm n (d + 1) x = -1 := if_neg h
theorem qt_bk_t {q T Lm : Nat → Nat} {n d x : Nat} (h : x < 12) (c : T x + n ≤ Lm x) : qt_bk q T Lm n (d + 1) x = qt_bk q T Lm n d (q x) := by
  show (if x < 12 then (if T x + n ≤ Lm x then qt_bk q T Lm n d (q x) else nI x) else -1) = _
  rw [if_pos h, if_pos c]
theorem qt_bk_f {q T Lm : Nat → Nat} {n d x : Nat} (h : x < 12) (c : ¬ T x + n ≤ Lm x) : qt_bk q T Lm n (d + 1) x = nI x := by
  show (if x < 12 then (if T x + n ≤ Lm x then qt_bk q T Lm n d (q x) else nI x) else -1) = _
  rw [if_pos h, if_neg c]
theorem qt_bk_all {q T Lm : Nat → Nat} {n : Nat} (h12 : q 12 = 12) (hq : ∀ x, q x ≤ 12) : ∀ d x, x ≤ 12 → qt_up q d x = 12 → qt_bk q T Lm n d x < 0 → ∀ j, qt_ub q x j = true → T j + n ≤ Lm j := by
  intro d
  induction d with
  | zero =>
    intro x _ hu _ j hj
    have e : x = 12 := hu
    rw [e, qt_ub_top h12] at hj
    exact absurd hj (by decide)
  | succ d ih =>
    intro x hx hu hn j hj
    by_cases h : x < 12
    · by_cases c : T x + n ≤ Lm x
      · rw [qt_bk_t h c] at hn
        by_cases e : x = j
        · rw [← e]; exact c
        · rw [qt_ub_st e] at hj
          exact ih (q x) (hq x) hu hn j hj
      · rw [qt_bk_f h c] at hn
        exact absurd hn (qt_ng h)
    · have e : x = 12 := by omega
      rw [e, qt_ub_top h12] at hj
      exact absurd hj (by decide)
section
variable {m op : Int32} {q Lm U W T own L : Nat → Nat} {bf : Nat → Int32} {post : Int32 → Prop}
/-- one step up stays among those who are there -/
theorem qt_nx (Tr : qt_Tr m q) {x : Nat} (h : bt m x = true) : q x = 12 ∨ bt m (q x) = true := by
  by_cases e : x = 0
  · rw [e]; exact Or.inl (qt_tr_q0 Tr)
  · exact Or.inr (qt_tr_par Tr h e)
theorem qt_xitw (H : qt_I m op q Lm U W T own L) {n : Nat} (hn : n ≤ 1000) : ∀ d s N x, s + d = 12 → d < N → (x = 12 ∨ bt m x = true) → post (qt_bk q T Lm n d x) → wX_inTheWay_5 post (nI n) m op (qt_par q) (qt_n Lm) (qt_n U) (qt_n W) (qt_n T) (qt_n own) (qt_n L) N (qt_e x) (nI s) := by
  have Tr := qt_I_tr H
  intro d
  induction d with
  | zero =>
    intro s N x hs hN hx hp
    obtain ⟨N, rfl⟩ : ∃ k, N = k + 1 := ⟨N - 1, by omega⟩
    exact br_t (qt_12t (by omega) (by omega)) hp
  | succ d ih =>
    intro s N x hs hN hx hp
    obtain ⟨N, rfl⟩ : ∃ k, N = k + 1 := ⟨N - 1, by omega⟩
    have h1 : ¬ (12 : Int32) ≤ nI s := qt_12f (by omega)
    rcases hx with e | hb
    · subst e
      rw [qt_bk_n (by decide)] at hp
      exact br_f h1 (br_t qt_e_ng hp)
    · have hx' := qt_tr_lt Tr hb
      have hT := qt_I_tk H hb
      have hL := qt_I_lm H x
      rw [qt_e_lt hx']
      refine br_f h1 (br_f (qt_ng hx') ⟨qt_in hx', qt_in hx', ?_⟩)
      rw [qt_n_a T hx', qt_n_a Lm hx', nI_add]
      by_cases c : T x + n ≤ Lm x
      · rw [qt_bk_t hx' c] at hp
        refine br_t ((nI_leI (by omega) (by omega)).mpr c) ⟨qt_in hx', nm_r (qt_par_a q hx') (nm_r (nI_1 s) ?_)⟩
        exact ih (s + 1) N (q x) (by omega) (by omega) (qt_nx Tr hb) hp
      · rw [qt_bk_f hx' c] at hp
        exact br_f (fun h => c ((nI_leI (by omega) (by omega)).mp h)) hp
theorem qt_xItw (H : qt_I m op q Lm U W T own L) {n x : Nat} (hn : n ≤ 1000) (hb : bt m x = true) (hp : post (qt_bk q T Lm n 12 x)) : wpX_inTheWay post (qt_x m op q Lm U W T own L) (nI x) (nI n) := by
  have K := qt_xitw H hn 12 0 13 x rfl (by decide) (Or.inr hb) hp
  rw [qt_e_lt (qt_tr_lt (qt_I_tr H) hb)] at K
  exact ⟨13, K⟩
theorem qt_yfst (H : qt_I m op q Lm U W T own L) {n : Nat} (hn : n ≤ 1000) : ∀ d s N x, s + d = 12 → d < N → (x = 12 ∨ bt m x = true) → post (qt_bk q T Lm n d x) → wY_first_5 post (nI n) (qt_th m) (qt_par q) (qt_n Lm) (qt_n U) (qt_n W) (qt_wh op own) (qt_n L) bf N (qt_e x) (nI s) := by
  have Tr := qt_I_tr H
  intro d
  induction d with
  | zero =>
    intro s N x hs hN hx hp
    obtain ⟨N, rfl⟩ : ∃ k, N = k + 1 := ⟨N - 1, by omega⟩
    exact br_t (qt_12t (by omega) (by omega)) hp
  | succ d ih =>
    intro s N x hs hN hx hp
    obtain ⟨N, rfl⟩ : ∃ k, N = k + 1 := ⟨N - 1, by omega⟩
    have h1 : ¬ (12 : Int32) ≤ nI s := qt_12f (by omega)
    rcases hx with e | hb
    · subst e
      rw [qt_bk_n (by decide)] at hp
      exact br_f h1 (br_t qt_e_ng hp)
    · have hx' := qt_tr_lt Tr hb
      have hT := qt_I_tk H hb
      have hL := qt_I_lm H x
      rw [qt_e_lt hx']
      refine br_f h1 (br_f (qt_ng hx') (qt_yTot Tr (qt_I_ow H) hx' ⟨qt_in hx', ?_⟩))
      rw [← qt_I_s H hb, qt_n_a Lm hx', nI_add]
      by_cases c : T x + n ≤ Lm x
      · rw [qt_bk_t hx' c] at hp
        refine br_t ((nI_leI (by omega) (by omega)).mpr c) ⟨qt_in hx', nm_r (qt_par_a q hx') (nm_r (nI_1 s) ?_)⟩
        exact ih (s + 1) N (q x) (by omega) (by omega) (qt_nx Tr hb) hp
      · rw [qt_bk_f hx' c] at hp
        exact br_f (fun h => c ((nI_leI (by omega) (by omega)).mp h)) hp
theorem qt_yFst (H : qt_I m op q Lm U W T own L) {n x : Nat} (hn : n ≤ 1000) (hb : bt m x = true) (hp : post (qt_bk q T Lm n 12 x)) : wpY_first post (qt_y m op q Lm U W own L bf) (nI x) (nI n) := by
  have K := qt_yfst (bf := bf) H hn 12 0 13 x rfl (by decide) (Or.inr hb) hp
  rw [qt_e_lt (qt_tr_lt (qt_I_tr H) hb)] at K
  exact ⟨13, K⟩
end
theorem i_vc_blocker {k : Nat} {u : SX} {v : SY} (I : i_Rel k u v) (hk : k + 3 ≤ 1536) (v1 : Int32) (v2 : Int32) : wpX_blocker (fun r => wpY_blocker (fun r' => r' = r ∧ i_Rel (k + 3) u v) v v1 v2) u v1 v2 := by
  refine qt_el (P := fun u v => wpX_blocker (fun r => wpY_blocker (fun r' => r' = r ∧ i_Rel (k + 3) u v) v v1 v2) u v1 v2) ?_ I
  intro m op q Lm U W T own L bf H
  have R := qt_mk (k := k + 3) (bf := bf) H
  unfold wpX_blocker wpY_blocker
  dsimp only
  rcases qt_hs m 12 v1 with ⟨a, hl, hb, rfl⟩ | h
  · rcases qt_am v2 with ⟨n, hn, rfl⟩ | h2
    · refine qt_has1 hl hb (br_f qt_10 (qt_amt1 hn (br_f qt_10 (qt_xItw H hn hb ?_))))
      refine qt_is1 hl hb (br_f qt_10 (qt_yam1 hn (br_f qt_10 (qt_yFst H hn hb ?_))))
      exact ⟨rfl, R⟩
    · exact qt_has1 hl hb (br_f qt_10 (qt_amt0 h2 (br_t rfl (qt_is1 hl hb (br_f qt_10 (qt_yam0 h2 (br_t rfl ⟨rfl, R⟩)))))))
  · exact qt_has0 h (br_t rfl (qt_is0 h (br_t rfl ⟨rfl, R⟩)))
/-! ===== reserve ===== -/
section
variable {m op : Int32} {x1 x2 : Int32}
theorem qt_xres {par lim us wa tot ow lf : Nat → Int32} {post : Int32 → SX → Prop} {n : Nat} : ∀ d i, (∀ j, i ≤ j → j < i + d → bt op j = true) → i + d ≤ 10 → wX_reserve_19 post x1 x2 m op par lim us wa tot ow lf n (nI (i + d)) → wX_reserve_19 post x1 x2 m op par lim us wa tot ow lf (n + d) (nI i) := by
  intro d
  induction d with
  | zero => intro i _ _ h; exact h
  | succ d ih =>
    intro i hb hd h
    rw [show i + (d + 1) = i + 1 + d by omega] at h
    have K := ih (i + 1) (fun j h1 h2 => hb j (by omega) (by omega)) (by omega) h
    refine br_f (qt_10f (by omega)) (qt_opn1 (by omega) (hb i (Nat.le_refl i) (by omega)) ?_)
    exact br_f qt_10 (nm_r (nI_1 i) K)
theorem qt_yres {own : Nat → Nat} {th up lim us wa rs bf : Nat → Int32} {post : Int32 → SY → Prop} {n : Nat} (hO : ∀ j, bt op j = true → own j < 12) : ∀ d i, (∀ j, i ≤ j → j < i + d → bt op j = true) → i + d ≤ 10 → wY_reserve_20 post x1 x2 th up lim us wa (qt_wh op own) rs bf n (nI (i + d)) → wY_reserve_20 post x1 x2 th up lim us wa (qt_wh op own) rs bf (n + d) (nI i) := by
  intro d
  induction d with
  | zero => intro i _ _ h; exact h
  | succ d ih =>
    intro i hb hd h
    rw [show i + (d + 1) = i + 1 + d by omega] at h
    have K := ih (i + 1) (fun j h1 h2 => hb j (by omega) (by omega)) (by omega) h
    have hl : i < 10 := by omega
    have hbi := hb i (Nat.le_refl i) (by omega)
    have hoi := hO i hbi
    exact br_f (qt_10f hl) ⟨qt_in0 hl, br_f (by rw [qt_wh_t hl hbi]; exact nI_ne0 (by omega) (by omega)) (nm_r (nI_1 i) K)⟩
end
section
variable {m op : Int32} {q Lm U W T own L : Nat → Nat} {bf : Nat → Int32}
theorem qt_xrs {post : Int32 → SX → Prop} (Tr : qt_Tr m q) {o n r : Nat} (ho : bt m o = true) (hr : r < 10) (hp : post (nI r) (qt_x m (qt_st op r) q Lm U W (qt_ad q o n T) (qt_u own r o) (qt_u L r n))) : wX_reserve_64 post (nI o) (nI n) (nI r) m op (qt_par q) (qt_n Lm) (qt_n U) (qt_n W) (qt_n T) (qt_n own) (qt_n L) := by
  have hol := qt_tr_lt Tr ho
  refine nm_e ⟨qt_in0 hr, nm_r (qt_n_b own (by omega) hol) ⟨qt_in0 hr, nm_r (qt_n_u L n (by omega)) ?_⟩⟩
  refine qt_xCar Tr ho ?_
  rw [qt_cr_n]
  exact hp
theorem qt_yrs {post : Int32 → SY → Prop} {o n r : Nat} (hr : r < 10) (hp : post (nI r) (qt_y m (qt_st op r) q Lm U W (qt_u own r o) (qt_u L r n) bf)) : wY_reserve_51 post (nI o) (nI n) (nI r) (qt_th m) (qt_par q) (qt_n Lm) (qt_n U) (qt_n W) (qt_wh op own) (qt_n L) bf :=
  ⟨qt_in0 hr, nm_r (qt_wh_s op own o (by omega)) ⟨qt_in0 hr, nm_r (qt_n_u L n (by omega)) hp⟩⟩
end
theorem i_vc_reserve {k : Nat} {u : SX} {v : SY} (I : i_Rel k u v) (hk : k + 3 ≤ 1536) (v1 : Int32) (v2 : Int32) : wpX_reserve (fun r u' => wpY_reserve (fun r' v' => r' = r ∧ i_Rel (k + 3) u' v') v v1 v2) u v1 v2 := by
  refine qt_el (P := fun u v => wpX_reserve (fun r u' => wpY_reserve (fun r' v' => r' = r ∧ i_Rel (k + 3) u' v') v v1 v2) u v1 v2) ?_ I
  intro m op q Lm U W T own L bf H
  have R := qt_mk (k := k + 3) (bf := bf) H
  have Tr := qt_I_tr H
  have hO : ∀ j, bt op j = true → own j < 12 := fun j hj => qt_tr_lt Tr (qt_I_ow H j hj).2
  unfold wpX_reserve wpY_reserve
  dsimp only
  rcases qt_hs m 12 v1 with ⟨o, hl, hb, rfl⟩ | h
  · rcases qt_am v2 with ⟨n, hn, rfl⟩ | h2
    · refine qt_has1 hl hb (br_f qt_10 (qt_amt1 hn (br_f qt_10 ?_)))
      rcases qt_fst (bt op) 0 10 with hall | ⟨r, _, h10, hf, hbel⟩
      · refine ⟨1 + 10, qt_xres 10 0 hall (by omega) ?_⟩
        refine br_t (qt_10t (by omega) (by omega)) (br_t rfl ?_)
        refine qt_is1 hl hb (br_f qt_10 (qt_yam1 hn (br_f qt_10 ?_)))
        refine ⟨1 + 10, qt_yres hO 10 0 hall (by omega) ?_⟩
        exact br_t (qt_10t (by omega) (by omega)) ⟨rfl, R⟩
      · have hr : r < 10 := by omega
        have hne : ¬ nI r = 10 := qt_ne (x := r) (y := 10) (by omega) (by omega) (by omega)
        have h0r : 0 + r = r := Nat.zero_add r
        refine ⟨1 + r, qt_xres r 0 (fun j h1 h2 => hbel j h1 (by omega)) (by omega) ?_⟩
        rw [h0r]
        refine br_f (qt_10f hr) (qt_opn0 (qt_at0 hr (by decide) hf) (br_t rfl (br_f hne ?_)))
        by_cases hz : n = 0
        · have hz' : nI n ≤ 0 := by rw [hz]; decide
          refine br_t hz' (qt_xrs Tr hb hr ?_)
          refine qt_is1 hl hb (br_f qt_10 (qt_yam1 hn (br_f qt_10 ?_)))
          refine ⟨1 + r, qt_yres hO r 0 (fun j h1 h2 => hbel j h1 (by omega)) (by omega) ?_⟩
          rw [h0r]
          refine br_f (qt_10f hr) ⟨qt_in0 hr, br_t (qt_wh_f hr hf) (br_t hz' (qt_yrs hr ⟨rfl, ?_⟩))⟩
          exact qt_mk (qt_k_res H hr hf hb (qt_set op (by omega)) (by have := qt_I_0 H; omega))
        · have hz' : ¬ nI n ≤ 0 := nI_nle (by omega) (by omega)
          refine br_f hz' (qt_xItw H hn hb ?_)
          by_cases hc : qt_bk q T Lm n 12 o < 0
          · refine br_t hc (qt_xrs Tr hb hr ?_)
            refine qt_is1 hl hb (br_f qt_10 (qt_yam1 hn (br_f qt_10 ?_)))
            refine ⟨1 + r, qt_yres hO r 0 (fun j h1 h2 => hbel j h1 (by omega)) (by omega) ?_⟩
            rw [h0r]
            refine br_f (qt_10f hr) ⟨qt_in0 hr, br_t (qt_wh_f hr hf) (br_f hz' (qt_yFst H hn hb (br_t hc (qt_yrs hr ⟨rfl, ?_⟩))))⟩
            have hroom := qt_bk_all (qt_tr_q12 Tr) (qt_tr_le Tr) 12 o (by omega) (qt_tr_12 Tr hb) hc 0 (qt_tr_rt Tr hb)
            have hlim := qt_I_lm H 0
            exact qt_mk (qt_k_res H hr hf hb (qt_set op (by omega)) (by omega))
          · refine br_f hc ?_
            refine qt_is1 hl hb (br_f qt_10 (qt_yam1 hn (br_f qt_10 ?_)))
            refine ⟨1 + r, qt_yres hO r 0 (fun j h1 h2 => hbel j h1 (by omega)) (by omega) ?_⟩
            rw [h0r]
            exact br_f (qt_10f hr) ⟨qt_in0 hr, br_t (qt_wh_f hr hf) (br_f hz' (qt_yFst H hn hb (br_f hc ⟨rfl, R⟩)))⟩
    · exact qt_has1 hl hb (br_f qt_10 (qt_amt0 h2 (br_t rfl (qt_is1 hl hb (br_f qt_10 (qt_yam0 h2 (br_t rfl ⟨rfl, R⟩)))))))
  · exact qt_has0 h (br_t rfl (qt_is0 h (br_t rfl ⟨rfl, R⟩)))
end
section
/-! ===== room: the least of what is left ===== -/
def qt_mn (z : Int32) (c : Nat → Bool) (f : Nat → Int32) (r : Int32) : Prop := r ≤ z ∧ (∀ a, c a = true → r ≤ f a) ∧ (r = z ∨ ∃ a, c a = true ∧ r = f a)
theorem qt_ilt {a b : Int32} (h : ¬ a ≤ b) : b ≤ a := by
  rw [Int32.le_iff_toInt_le] at h ⊢
  omega
theorem qt_mn_u {z : Int32} {c c' : Nat → Bool} {f : Nat → Int32} {r r' : Int32} (hc : ∀ a, c a = true ↔ c' a = true) (h : qt_mn z c f r) (h' : qt_mn z c' f r') : r = r' := by
  obtain ⟨h1, h2, h3⟩ := h
  obtain ⟨h1', h2', h3'⟩ := h'
  have l1 : r ≤ r' := by
    rcases h3' with e | ⟨a, ha, e⟩
    · rw [e]; exact h1
    · rw [e]; exact h2 a ((hc a).mpr ha)
  have l2 : r' ≤ r := by
    rcases h3 with e | ⟨a, ha, e⟩
    · rw [e]; exact h1'
    · rw [e]; exact h2' a ((hc a).mp ha)
  exact Int32.le_antisymm l1 l2
theorem qt_mn_e (z : Int32) {c : Nat → Bool} (f : Nat → Int32) (h : ∀ a, c a = false) : qt_mn z c f z :=
  ⟨Int32.le_refl _, fun a ha => by rw [h a] at ha; exact absurd ha (by decide), Or.inl rfl⟩
/-- one more in the set, not below the least so far -/
theorem qt_mn_k {z : Int32} {c c' : Nat → Bool} {f : Nat → Int32} {x : Nat} (hc : ∀ a, c' a = true → a = x ∨ c a = true) (hi : ∀ a, c a = true → c' a = true) (hz : z ≤ f x) {r : Int32} (h : qt_mn z c f r) : qt_mn z c' f r := by
  obtain ⟨h1, h2, h3⟩ := h
  refine ⟨h1, ?_, ?_⟩
  · intro a ha
    rcases hc a ha with e | e
    · rw [e]; exact Int32.le_trans h1 hz
    · exact h2 a e
  · rcases h3 with e | ⟨a, ha, e⟩
    · exact Or.inl e
    · exact Or.inr ⟨a, hi a ha, e⟩
theorem qt_mn_n {z : Int32} {c c' : Nat → Bool} {f : Nat → Int32} {x : Nat} (hc : ∀ a, c' a = true → a = x ∨ c a = true) (hi : ∀ a, c a = true → c' a = true) (hx : c' x = true) (hz : ¬ z ≤ f x) {r : Int32} (h : qt_mn (f x) c f r) : qt_mn z c' f r := by
  obtain ⟨h1, h2, h3⟩ := h
  refine ⟨Int32.le_trans h1 (qt_ilt hz), ?_, ?_⟩
  · intro a ha
    rcases hc a ha with e | e
    · rw [e]; exact h1
    · exact h2 a e
  · rcases h3 with e | ⟨a, ha, e⟩
    · exact Or.inr ⟨x, hx, e⟩
    · exact Or.inr ⟨a, hi a ha, e⟩
section
variable {m op : Int32} {q Lm U W T own L : Nat → Nat} {bf : Nat → Int32} {post : Int32 → Prop}
abbrev qt_lf (Lm T : Nat → Nat) : Nat → Int32 := fun a => nI (Lm a) - nI (T a)
theorem qt_xrm (h12 : q 12 = 12) (hq : ∀ x, q x ≤ 12) : ∀ d s N x z, s + d = 12 → d < N → x ≤ 12 → qt_up q d x = 12 → (∀ r, qt_mn z (fun a => qt_ub q x a) (qt_lf Lm T) r → wX_room_71 post r m op (qt_par q) (qt_n Lm) (qt_n U) (qt_n W) (qt_n T) (qt_n own) (qt_n L)) → wX_room_19 post m op (qt_par q) (qt_n Lm) (qt_n U) (qt_n W) (qt_n T) (qt_n own) (qt_n L) N z (qt_e x) (nI s) := by
  intro d
  induction d with
  | zero =>
    intro s N x z hs hN hx hu hp
    obtain ⟨N, rfl⟩ : ∃ k, N = k + 1 := ⟨N - 1, by omega⟩
    have e : x = 12 := hu
    subst e
    exact br_t (qt_12t (by omega) (by omega)) (hp z (qt_mn_e z _ (qt_ub_top h12)))
  | succ d ih =>
    intro s N x z hs hN hx hu hp
    obtain ⟨N, rfl⟩ : ∃ k, N = k + 1 := ⟨N - 1, by omega⟩
    have h1 : ¬ (12 : Int32) ≤ nI s := qt_12f (by omega)
    by_cases e : x = 12
    · subst e
      exact br_f h1 (br_t qt_e_ng (hp z (qt_mn_e z _ (qt_ub_top h12))))
    · have hx' : x < 12 := by omega
      rw [qt_e_lt hx']
      have hc : ∀ a, qt_ub q x a = true → a = x ∨ qt_ub q (q x) a = true := by
        intro a ha
        by_cases e2 : x = a
        · exact Or.inl e2.symm
        · rw [qt_ub_st e2] at ha; exact Or.inr ha
      have hi : ∀ a, qt_ub q (q x) a = true → qt_ub q x a = true := fun a ha => qt_ub_up ha
      refine br_f h1 (br_f (qt_ng hx') ⟨qt_in hx', qt_in hx', nm_r (e' := qt_lf Lm T x) (by rw [qt_n_a Lm hx', qt_n_a T hx']) ?_⟩)
      by_cases hz : z ≤ qt_lf Lm T x
      · refine br_t hz ⟨qt_in hx', nm_r (qt_par_a q hx') (nm_r (nI_1 s) ?_)⟩
        exact ih (s + 1) N (q x) z (by omega) (by omega) (hq x) hu (fun r hr => hp r (qt_mn_k (x := x) hc hi hz hr))
      · refine br_f hz ⟨qt_in hx', nm_r (qt_par_a q hx') (nm_r (nI_1 s) ?_)⟩
        exact ih (s + 1) N (q x) (qt_lf Lm T x) (by omega) (by omega) (hq x) hu (fun r hr => hp r (qt_mn_n (x := x) hc hi (qt_ub_rf hx') hz hr))
theorem qt_yrm (H : qt_I m op q Lm U W T own L) {o : Nat} (hb : bt m o = true) : ∀ d p z, p + d = 12 → z ≤ 1000 → (∀ r, qt_mn z (fun a => decide (p ≤ a) && qt_ub q o a) (qt_lf Lm T) r → (r ≤ 0 → post 0) ∧ (¬ r ≤ 0 → post r)) → wY_room_16 post (nI o) (qt_th m) (qt_par q) (qt_n Lm) (qt_n U) (qt_n W) (qt_wh op own) (qt_n L) bf (d + 1) z (nI p) := by
  have Tr := qt_I_tr H
  intro d
  induction d with
  | zero =>
    intro p z hd hz hp
    have e : p = 12 := hd
    subst e
    refine br_t (qt_12t (by omega) (by omega)) (hp z (qt_mn_e z _ ?_))
    intro a
    show (decide (12 ≤ a) && qt_ub q o a) = false
    cases hu : qt_ub q o a with
    | false => rw [Bool.and_false]
    | true => rw [decide_eq_false (by have := qt_ub_lt hu; omega)]; rfl
  | succ d ih =>
    intro p z hd hz hp
    have hl : p < 12 := by omega
    have hi : ∀ a, (decide (p + 1 ≤ a) && qt_ub q o a) = true → (decide (p ≤ a) && qt_ub q o a) = true := by
      intro a ha
      have h1 := Bool.and_eq_true_iff.mp ha
      have h2 : p + 1 ≤ a := of_decide_eq_true h1.1
      rw [decide_eq_true (show p ≤ a by omega), h1.2]; rfl
    have hc : ∀ a, (decide (p ≤ a) && qt_ub q o a) = true → a = p ∨ (decide (p + 1 ≤ a) && qt_ub q o a) = true := by
      intro a ha
      have h1 := Bool.and_eq_true_iff.mp ha
      have h2 : p ≤ a := of_decide_eq_true h1.1
      by_cases e : a = p
      · exact Or.inl e
      · right
        rw [decide_eq_true (show p + 1 ≤ a by omega), h1.2]; rfl
    have skip : qt_ub q o p = false → wY_room_16 post (nI o) (qt_th m) (qt_par q) (qt_n Lm) (qt_n U) (qt_n W) (qt_wh op own) (qt_n L) bf (d + 1) z (nI (p + 1)) := by
      intro hu
      refine ih (p + 1) z (by omega) hz (fun r hr => hp r ?_)
      refine ⟨hr.1, ?_, ?_⟩
      · intro a ha
        have ha' : (decide (p ≤ a) && qt_ub q o a) = true := ha
        rcases hc a ha' with e | e
        · rw [e, hu, Bool.and_false] at ha'
          exact absurd ha' (by decide)
        · exact hr.2.1 a e
      · rcases hr.2.2 with e | ⟨a, ha, e⟩
        · exact Or.inl e
        · exact Or.inr ⟨a, hi a ha, e⟩
    refine br_f (qt_12f hl) ⟨qt_in hl, ?_⟩
    cases hm : bt m p with
    | false =>
      have hu : qt_ub q o p = false := qt_abs Tr hm hb
      exact br_t (qt_th_f hl hm) (br_t hz (nm_r (nI_1 p) (skip hu)))
    | true =>
      refine br_f (qt_th_n hl hm) (qt_yUnd Tr hb hl ?_)
      cases hu : qt_ub q o p with
      | false => exact br_t rfl (br_t hz (nm_r (nI_1 p) (skip hu)))
      | true =>
        refine br_f qt_10 ⟨qt_in hl, qt_yTot Tr (qt_I_ow H) hl ?_⟩
        rw [← qt_I_s H hm, qt_n_a Lm hl]
        have hx : (decide (p ≤ p) && qt_ub q o p) = true := by rw [decide_eq_true (Nat.le_refl p), hu]; rfl
        by_cases c : z ≤ qt_lf Lm T p
        · refine br_t c (nm_r (nI_1 p) ?_)
          exact ih (p + 1) z (by omega) hz (fun r hr => hp r (qt_mn_k (x := p) hc hi c hr))
        · refine br_f c (nm_r (nI_1 p) ?_)
          exact ih (p + 1) (qt_lf Lm T p) (by omega) (Int32.le_trans (qt_ilt c) hz) (fun r hr => hp r (qt_mn_n (x := p) hc hi hx c hr))
end
theorem i_vc_room {k : Nat} {u : SX} {v : SY} (I : i_Rel k u v) (hk : k + 3 ≤ 1536) (v1 : Int32) : wpX_room (fun r => wpY_room (fun r' => r' = r ∧ i_Rel (k + 3) u v) v v1) u v1 := by
  refine qt_el (P := fun u v => wpX_room (fun r => wpY_room (fun r' => r' = r ∧ i_Rel (k + 3) u v) v v1) u v1) ?_ I
  intro m op q Lm U W T own L bf H
  have R := qt_mk (k := k + 3) (bf := bf) H
  have Tr := qt_I_tr H
  unfold wpX_room wpY_room
  dsimp only
  rcases qt_hs m 12 v1 with ⟨o, hl, hb, rfl⟩ | h
  · refine qt_has1 hl hb (br_f qt_10 ⟨13, ?_⟩)
    rw [← qt_e_lt hl]
    refine qt_xrm (qt_tr_q12 Tr) (qt_tr_le Tr) 12 0 13 o 1000 rfl (by decide) (by omega) (qt_tr_12 Tr hb) ?_
    intro r hr
    rw [qt_e_lt hl]
    have key : ∀ r0 : Int32, ((r ≤ 0 ∧ r0 = 0) ∨ (¬ r ≤ 0 ∧ r0 = r)) → wpY_is (fun r_1 => (r_1 = 0 → (-1 : Int32) = r0 ∧ i_Rel (k + 3) (qt_x m op q Lm U W T own L) (qt_y m op q Lm U W own L bf)) ∧ (¬ r_1 = 0 → ∃ n16 : Nat, wY_room_16 (fun r' => r' = r0 ∧ i_Rel (k + 3) (qt_x m op q Lm U W T own L) (qt_y m op q Lm U W own L bf)) (nI o) (qt_th m) (qt_par q) (qt_n Lm) (qt_n U) (qt_n W) (qt_wh op own) (qt_n L) bf n16 1000 0)) (qt_y m op q Lm U W own L bf) (nI o) := by
      intro r0 h0
      refine qt_is1 hl hb (br_f qt_10 ⟨13, ?_⟩)
      refine qt_yrm H hb 12 0 1000 rfl (Int32.le_refl _) ?_
      intro r' hr'
      have e : r' = r := qt_mn_u (fun a => by rw [decide_eq_true (Nat.zero_le a), Bool.true_and]) hr' hr
      rw [e]
      rcases h0 with ⟨c, e0⟩ | ⟨c, e0⟩
      · exact br_t c ⟨e0.symm, R⟩
      · exact br_f c ⟨e0.symm, R⟩
    by_cases c : (0 : Int32) ≤ r
    · refine br_t c ?_
      by_cases c2 : r ≤ 0
      · exact key r (Or.inl ⟨c2, Int32.le_antisymm c2 c⟩)
      · exact key r (Or.inr ⟨c2, rfl⟩)
    · refine br_f c ?_
      exact key 0 (Or.inl ⟨qt_ilt c, rfl⟩)
  · exact qt_has0 h (br_t rfl (qt_is0 h (br_t rfl ⟨rfl, R⟩)))
end
section
/-! ===== move ===== -/
section
variable {m op : Int32} {q Lm U W T own L : Nat → Nat} {bf : Nat → Int32}
theorem qt_I_mo (H : qt_I m op q Lm U W T own L) {o j : Nat} (ho : bt m o = true) (hu : qt_ub q o j = true) : T o ≤ T j := by
  rw [qt_I_s H ho, qt_I_s H (qt_tr_up (qt_I_tr H) ho hu)]
  exact qt_S_m (qt_I_ow H) (fun p _ h => qt_ub_tr h hu)
/-- does the owner j have room for the moved total C (t: the totals without it on the old way up) -/
noncomputable def qt_ft (q t Lm : Nat → Nat) (o C j : Nat) : Bool := qt_ub q o j || decide (C = 0) || decide (t j + C ≤ Lm j)
theorem qt_xmv {post : Int32 → SX → Prop} {o a C : Nat} {t : Nat → Nat} (Tr : qt_Tr m q) (ho : bt m o = true) (hL : ∀ j, Lm j ≤ 1000) (ht : ∀ j, bt m j = true → t j ≤ 1000) (hC : C ≤ 1000) :
    ∀ d s N x (b : Bool), s + d = 12 → d < N → (x = 12 ∨ bt m x = true) → qt_up q d x = 12 →
      (∀ b' : Bool, (b' = true ↔ b = true ∧ ∀ j, qt_ub q x j = true → qt_ft q t Lm o C j = true) → wX_move_135 post (nI o) (nI a) (nI C) (qt_z b') m op (qt_par q) (qt_n Lm) (qt_n U) (qt_n W) (qt_n t) (qt_n own) (qt_n L)) →
      wX_move_59 post (nI o) (nI a) (nI C) m op (qt_par q) (qt_n Lm) (qt_n U) (qt_n W) (qt_n t) (qt_n own) (qt_n L) N (qt_z b) (qt_e x) (nI s) := by
  have h12 := qt_tr_q12 Tr
  intro d
  induction d with
  | zero =>
    intro s N x b hs hN hx hu hp
    obtain ⟨N, rfl⟩ : ∃ k, N = k + 1 := ⟨N - 1, by omega⟩
    have e : x = 12 := hu
    subst e
    refine br_t (qt_12t (by omega) (by omega)) (hp b ⟨fun h => ⟨h, ?_⟩, fun h => h.1⟩)
    intro j hj
    rw [qt_ub_top h12] at hj
    exact absurd hj (by decide)
  | succ d ih =>
    intro s N x b hs hN hx hu hp
    obtain ⟨N, rfl⟩ : ∃ k, N = k + 1 := ⟨N - 1, by omega⟩
    have h1 : ¬ (12 : Int32) ≤ nI s := qt_12f (by omega)
    rcases hx with e | hb
    · subst e
      refine br_f h1 (br_t qt_e_ng (hp b ⟨fun h => ⟨h, ?_⟩, fun h => h.1⟩))
      intro j hj
      rw [qt_ub_top h12] at hj
      exact absurd hj (by decide)
    · have hx' := qt_tr_lt Tr hb
      have htx := ht x hb
      have hLx := hL x
      rw [qt_e_lt hx']
      have K := ih (s + 1) N (q x) (b && qt_ft q t Lm o C x) (by omega) (by omega) (qt_nx Tr hb) hu (by
        intro b' hb'
        refine hp b' ?_
        rw [hb', Bool.and_eq_true_iff]
        constructor
        · intro ⟨⟨g1, g2⟩, g3⟩
          refine ⟨g1, fun j hj => ?_⟩
          by_cases e : x = j
          · rw [← e]; exact g2
          · rw [qt_ub_st e] at hj; exact g3 j hj
        · intro ⟨g1, g2⟩
          exact ⟨⟨g1, g2 x (qt_ub_rf hx')⟩, fun j hj => g2 j (qt_ub_up hj)⟩)
      refine br_f h1 (br_f (qt_ng hx') (qt_xBel Tr ho hx' ?_))
      cases b with
      | false =>
        rw [Bool.false_and] at K
        exact br_t rfl ⟨qt_in hx', nm_r (qt_par_a q hx') (nm_r (nI_1 s) K)⟩
      | true =>
        rw [Bool.true_and] at K
        refine br_f qt_10 ?_
        cases hu2 : qt_ub q o x with
        | true =>
          have e : qt_ft q t Lm o C x = true := by unfold qt_ft; rw [hu2]; rfl
          rw [e] at K
          exact br_f qt_10 ⟨qt_in hx', nm_r (qt_par_a q hx') (nm_r (nI_1 s) K)⟩
        | false =>
          refine br_t rfl ?_
          by_cases c0 : C = 0
          · have e : qt_ft q t Lm o C x = true := by unfold qt_ft; rw [decide_eq_true c0, Bool.or_true, Bool.true_or]
            rw [e] at K
            exact br_t (by rw [c0]; rfl) ⟨qt_in hx', nm_r (qt_par_a q hx') (nm_r (nI_1 s) K)⟩
          · refine br_f (nI_ne0 (by omega) (by omega)) ⟨qt_in hx', qt_in hx', ?_⟩
            rw [qt_n_a Lm hx', qt_n_a t hx', nI_add]
            by_cases c : t x + C ≤ Lm x
            · have e : qt_ft q t Lm o C x = true := by unfold qt_ft; rw [decide_eq_true c, Bool.or_true]
              rw [e] at K
              exact br_f (nI_nlt c (by omega)) ⟨qt_in hx', nm_r (qt_par_a q hx') (nm_r (nI_1 s) K)⟩
            · have e : qt_ft q t Lm o C x = false := by unfold qt_ft; rw [hu2, decide_eq_false c0, decide_eq_false c]; rfl
              rw [e] at K
              exact br_t (nI_lt (by omega) (by omega)) ⟨qt_in hx', nm_r (qt_par_a q hx') (nm_r (nI_1 s) K)⟩
/-- the reference's first pass -/
theorem qt_ymb {post : Int32 → SY → Prop} {o a : Nat} (H : qt_I m op q Lm U W T own L) (ho : o < 12) (ha : a < 12)
    (hp : ∀ bf' : Nat → Int32, (∀ j, j < 12 → bt m j = true → bf' j = nI (T j)) → ∃ n, wY_move_89 post (nI o) (nI a) (qt_e (q o)) (qt_th m) (qt_par (qt_u q o a)) (qt_n Lm) (qt_n U) (qt_n W) (qt_wh op own) (qt_n L) bf' n 1 0) :
    ∀ d p (bf : Nat → Int32), p + d = 12 → (∀ j, j < p → bt m j = true → bf j = nI (T j)) → wY_move_33 post (nI o) (nI a) (d + 1) (nI p) (qt_th m) (qt_par q) (qt_n Lm) (qt_n U) (qt_n W) (qt_wh op own) (qt_n L) bf := by
  have Tr := qt_I_tr H
  intro d
  induction d with
  | zero =>
    intro p bf hd hbf
    have e : p = 12 := hd
    subst e
    have eP : upd (qt_par q) (nI o).toNatClampNeg (nI a) = qt_par (qt_u q o a) := by
      rw [← qt_e_lt ha]; exact qt_par_u q ho (by omega)
    exact br_t (qt_12t (by omega) (by omega)) ⟨qt_in ho, nm_r (qt_par_a q ho) ⟨qt_in ho, nm_r eP (hp bf hbf)⟩⟩
  | succ d ih =>
    intro p bf hd hbf
    have hl : p < 12 := by omega
    have hcl : (nI p).toNatClampNeg = p := nI_clamp (by omega)
    refine br_f (qt_12f hl) ⟨qt_in hl, ?_⟩
    cases hm : bt m p with
    | false =>
      refine br_t (qt_th_f hl hm) ⟨qt_in hl, nm_e (nm_r (nI_1 p) (ih (p + 1) _ (by omega) ?_))⟩
      intro j hj hb
      rw [hcl]
      by_cases e : j = p
      · rw [e, hm] at hb; exact absurd hb (by decide)
      · rw [pk_un e]; exact hbf j (by omega) hb
    | true =>
      refine br_f (qt_th_n hl hm) (qt_yTot Tr (qt_I_ow H) hl ?_)
      rw [← qt_I_s H hm]
      refine ⟨qt_in hl, nm_e (nm_r (nI_1 p) (ih (p + 1) _ (by omega) ?_))⟩
      intro j hj hb
      rw [hcl]
      by_cases e : j = p
      · rw [e, pk_us]
      · rw [pk_un e]; exact hbf j (by omega) hb
/-- an owner that the move would put further above its limit -/
noncomputable def qt_bd (m : Int32) (q' S T Lm : Nat → Nat) (a : Nat) : Nat → Bool := fun p => bt m p && (qt_ub q' a p && (!decide (S p ≤ Lm p) && decide (T p < S p)))
/-- the reference's second pass -/
theorem qt_ymc {post : Int32 → SY → Prop} {q' S : Nat → Nat} {o a : Nat} {x3 : Int32} (Tr : qt_Tr m q') (O : qt_Ow m op own) (ha : bt m a = true)
    (hS : ∀ p, bt m p = true → qt_S m op U W own L (fun x => qt_ub q' x p) = S p) (hSk : ∀ p, bt m p = true → S p ≤ 2000) (hL : ∀ j, Lm j ≤ 1000) (hT : ∀ p, bt m p = true → T p ≤ 1000)
    (hbf : ∀ j, j < 12 → bt m j = true → bf j = nI (T j))
    (hp : ∀ b : Bool, b = qt_al (qt_bd m q' S T Lm a) 12 → wY_move_193 post (nI a) (qt_z b) (match b with | true => nI a | false => x3) (nI o) (qt_th m) (qt_par q') (qt_n Lm) (qt_n U) (qt_n W) (qt_wh op own) (qt_n L) bf) :
    ∀ d p, p + d = 12 → wY_move_89 post (nI o) (nI a) x3 (qt_th m) (qt_par q') (qt_n Lm) (qt_n U) (qt_n W) (qt_wh op own) (qt_n L) bf (d + 1) (qt_z (qt_al (qt_bd m q' S T Lm a) p)) (nI p) := by
  intro d
  induction d with
  | zero =>
    intro p hd
    have e : p = 12 := hd
    subst e
    refine br_t (qt_12t (by omega) (by omega)) ?_
    cases hb : qt_al (qt_bd m q' S T Lm a) 12 with
    | false => exact br_t rfl (hp false hb.symm)
    | true => exact br_f qt_10 (hp true hb.symm)
  | succ d ih =>
    intro p hd
    have hl : p < 12 := by omega
    have K := ih (p + 1) (by omega)
    rw [qt_al_s] at K
    have hcl : (nI p).toNatClampNeg = p := nI_clamp (by omega)
    -- a row that isn't above the new parent: nothing changes
    have skip : qt_bd m q' S T Lm a p = false → wY_move_120 post (wY_move_89 post (nI o) (nI a) x3 (qt_th m) (qt_par q') (qt_n Lm) (qt_n U) (qt_n W) (qt_wh op own) (qt_n L) bf (d + 1)) (nI o) (nI a) x3 (qt_z (qt_al (qt_bd m q' S T Lm a) p)) (nI p) (qt_th m) (qt_par q') (qt_n Lm) (qt_n U) (qt_n W) (qt_wh op own) (qt_n L) bf := by
      intro hf
      rw [hf, Bool.not_false, Bool.and_true] at K
      cases hb : qt_al (qt_bd m q' S T Lm a) p with
      | false =>
        rw [hb] at K
        exact br_t rfl (nm_r (nI_1 p) K)
      | true =>
        rw [hb] at K
        exact br_f qt_10 (br_t rfl (nm_r (nI_1 p) K))
    refine br_f (qt_12f hl) ⟨qt_in hl, ?_⟩
    cases hm : bt m p with
    | false => exact br_t (qt_th_f hl hm) (skip (by unfold qt_bd; rw [hm]; rfl))
    | true =>
      refine br_f (qt_th_n hl hm) (qt_yUnd Tr ha hl ?_)
      cases hu : qt_ub q' a p with
      | false => exact br_t rfl (skip (by unfold qt_bd; rw [hu, Bool.false_and, Bool.and_false]))
      | true =>
        refine br_f qt_10 ?_
        cases hb : qt_al (qt_bd m q' S T Lm a) p with
        | false =>
          rw [hb, Bool.false_and] at K
          exact br_t rfl (nm_r (nI_1 p) K)
        | true =>
          rw [hb, Bool.true_and] at K
          refine br_f qt_10 (br_f qt_10 (qt_yTot Tr O hl ⟨qt_in hl, ?_⟩))
          rw [hS p hm, qt_n_a Lm hl]
          have hSp := hSk p hm
          have hLp := hL p
          by_cases c : S p ≤ Lm p
          · have e : qt_bd m q' S T Lm a p = false := by unfold qt_bd; rw [decide_eq_true c, Bool.not_true, Bool.false_and, Bool.and_false, Bool.and_false]
            rw [e] at K
            exact br_t ((nI_leI (by omega) (by omega)).mpr c) (nm_r (nI_1 p) K)
          · refine br_f (fun h => c ((nI_leI (by omega) (by omega)).mp h)) (qt_yTot Tr O hl ⟨qt_in hl, ?_⟩)
            rw [hS p hm, hcl, hbf p hl hm]
            have hTp := hT p hm
            by_cases c2 : T p < S p
            · have e : qt_bd m q' S T Lm a p = true := by unfold qt_bd; rw [hm, hu, decide_eq_false c, decide_eq_true c2]; rfl
              rw [e] at K
              exact br_t ((nI_ltI (by omega) (by omega)).mpr c2) (nm_r (nI_1 p) K)
            · have e : qt_bd m q' S T Lm a p = false := by unfold qt_bd; rw [decide_eq_false c2, Bool.and_false, Bool.and_false, Bool.and_false]
              rw [e] at K
              exact br_f (fun h => c2 ((nI_ltI (by omega) (by omega)).mp h)) (nm_r (nI_1 p) K)
/-- both judge the move alike -/
theorem qt_mv_j (H : qt_I m op q Lm U W T own L) {o a : Nat} (ho : bt m o = true) (ha : bt m a = true) (hn : qt_ub q a o = false) :
    qt_al (qt_bd m (qt_u q o a) (qt_ad q a (T o) (qt_sb q (q o) (T o) T)) T Lm a) 12 = true ↔ ∀ j, qt_ub q a j = true → qt_ft q (qt_sb q (q o) (T o) T) Lm o (T o) j = true := by
  have Tr := qt_I_tr H
  have hol := qt_tr_lt Tr ho
  rw [qt_al_i]
  have each : ∀ j, qt_ub q a j = true → (qt_bd m (qt_u q o a) (qt_ad q a (T o) (qt_sb q (q o) (T o) T)) T Lm a j = false ↔ qt_ft q (qt_sb q (q o) (T o) T) Lm o (T o) j = true) := by
    intro j hj
    have hjb := qt_tr_up Tr ha hj
    have hne : o ≠ j := by
      intro e
      rw [← e, hn] at hj
      exact absurd hj (by decide)
    unfold qt_bd qt_ft
    rw [hjb, qt_ub_ch hol hn, hj, qt_ad_t hj, Bool.true_and, Bool.true_and, qt_ub_st hne]
    cases e1 : qt_ub q (q o) j with
    | true =>
      have hle : T o ≤ T j := qt_I_mo H ho (qt_ub_up e1)
      rw [qt_sb_t e1, decide_eq_false (p := T j < T j - T o + T o) (by omega), Bool.and_false, Bool.true_or, Bool.true_or]
      exact ⟨fun _ => rfl, fun _ => rfl⟩
    | false =>
      rw [qt_sb_f e1, Bool.false_or]
      by_cases c0 : T o = 0
      · rw [decide_eq_false (p := T j < T j + T o) (by omega), decide_eq_true c0, Bool.and_false, Bool.true_or]
        exact ⟨fun _ => rfl, fun _ => rfl⟩
      · rw [decide_eq_true (p := T j < T j + T o) (by omega), decide_eq_false c0, Bool.and_true, Bool.false_or]
        cases decide (T j + T o ≤ Lm j) <;> decide
  constructor
  · intro h j hj
    exact (each j hj).mp (h j (qt_ub_lt hj))
  · intro h j _
    cases hj : qt_ub q a j with
    | true => exact (each j hj).mpr (h j hj)
    | false =>
      unfold qt_bd
      rw [qt_ub_ch hol hn, hj, Bool.false_and, Bool.and_false]
/-- the component goes back -/
theorem qt_back (H : qt_I m op q Lm U W T own L) {o : Nat} (ho : bt m o = true) : qt_ad q (q o) (T o) (qt_sb q (q o) (T o) T) = T := by
  funext j
  cases e : qt_ub q (q o) j with
  | true =>
    have hle : T o ≤ T j := qt_I_mo H ho (qt_ub_up e)
    rw [qt_ad_t e, qt_sb_t e]
    omega
  | false => rw [qt_ad_f e, qt_sb_f e]
theorem qt_ad_ch {o a n : Nat} {t : Nat → Nat} (ho : o < 12) (hn : qt_ub q a o = false) : qt_ad (qt_u q o a) a n t = qt_ad q a n t := by
  funext j
  unfold qt_ad
  rw [qt_ub_ch ho hn]
theorem qt_u2 {o a : Nat} : qt_u (qt_u q o a) o (q o) = q := by
  funext j
  by_cases e : j = o
  · rw [e, qt_us]
  · rw [qt_un e, qt_un e]
theorem qt_u3 {o a : Nat} : qt_u (qt_u q o a) o a = qt_u q o a := by
  funext j
  by_cases e : j = o
  · rw [e, qt_us, qt_us]
  · rw [qt_un e]
theorem qt_xMv {post : Int32 → SX → Prop} {o a C : Nat} {t : Nat → Nat} (Tr : qt_Tr m q) (ho : bt m o = true) (ha : bt m a = true) (hL : ∀ j, Lm j ≤ 1000) (ht : ∀ j, bt m j = true → t j ≤ 1000) (hC : C ≤ 1000)
    (hp : ∀ b' : Bool, (b' = true ↔ ∀ j, qt_ub q a j = true → qt_ft q t Lm o C j = true) → wX_move_135 post (nI o) (nI a) (nI C) (qt_z b') m op (qt_par q) (qt_n Lm) (qt_n U) (qt_n W) (qt_n t) (qt_n own) (qt_n L)) :
    wX_move_59 post (nI o) (nI a) (nI C) m op (qt_par q) (qt_n Lm) (qt_n U) (qt_n W) (qt_n t) (qt_n own) (qt_n L) 13 1 (nI a) 0 := by
  have K := qt_xmv (post := post) (op := op) (U := U) (W := W) (own := own) (L := L) (a := a) Tr ho hL ht hC 12 0 13 a true rfl (by decide) (Or.inr ha) (qt_tr_12 Tr ha) (fun b' hb' => hp b' (by rw [hb']; exact ⟨fun h => h.2, fun h => ⟨rfl, h⟩⟩))
  rw [qt_e_lt (qt_tr_lt Tr ha)] at K
  exact K
theorem qt_yMv {post : Int32 → SY → Prop} {o a : Nat} (H : qt_I m op q Lm U W T own L) (h0 : o ≠ 0) (ho : bt m o = true) (ha : bt m a = true) (hn : qt_ub q a o = false)
    (hp : ∀ (bf' : Nat → Int32) (b : Bool), b = qt_al (qt_bd m (qt_u q o a) (qt_ad q a (T o) (qt_sb q (q o) (T o) T)) T Lm a) 12 → (b = false → post (-3) (qt_y m op q Lm U W own L bf')) ∧ (b = true → post (nI a) (qt_y m op (qt_u q o a) Lm U W own L bf'))) :
    ∃ n, wY_move_33 post (nI o) (nI a) n 0 (qt_th m) (qt_par q) (qt_n Lm) (qt_n U) (qt_n W) (qt_wh op own) (qt_n L) bf := by
  have Tr := qt_I_tr H
  have hol := qt_tr_lt Tr ho
  have hal := qt_tr_lt Tr ha
  have Tr' := qt_mv_tr Tr h0 ho ha hn
  refine ⟨13, qt_ymb H hol hal ?_ 12 0 bf rfl (fun j hj => absurd hj (Nat.not_lt_zero _))⟩
  intro bf' hbf'
  refine ⟨13, qt_ymc Tr' (qt_I_ow H) ha (fun p hpb => qt_mv_S H h0 ho ha hn hpb) ?_ (qt_I_lm H) (fun p hpb => qt_I_tk H hpb) hbf' ?_ 12 0 rfl⟩
  · intro p hpb
    have h1 := qt_I_tk H hpb
    have h2 := qt_I_tk H ho
    have h3 : qt_sb q (q o) (T o) T p ≤ T p := by
      cases e : qt_ub q (q o) p with
      | true => rw [qt_sb_t e]; omega
      | false => rw [qt_sb_f e]; omega
    cases e : qt_ub q a p with
    | true => rw [qt_ad_t e]; omega
    | false => rw [qt_ad_f e]; omega
  · intro b hb
    have hq := hp bf' b hb
    cases b with
    | false =>
      have e1 : upd (qt_par (qt_u q o a)) (nI o).toNatClampNeg (qt_e (q o)) = qt_par q := by
        rw [qt_par_u _ hol (qt_tr_le Tr o), qt_u2]
      exact ⟨qt_in hol, nm_r e1 (br_t rfl (hq.1 rfl))⟩
    | true =>
      have e1 : upd (qt_par (qt_u q o a)) (nI o).toNatClampNeg (nI a) = qt_par (qt_u q o a) := by
        rw [← qt_e_lt hal, qt_par_u _ hol (by omega), qt_u3]
      exact ⟨qt_in hol, nm_r e1 (br_f qt_10 (hq.2 rfl))⟩
end
theorem i_vc_move {k : Nat} {u : SX} {v : SY} (I : i_Rel k u v) (hk : k + 3 ≤ 1536) (v1 : Int32) (v2 : Int32) : wpX_move (fun r u' => wpY_move (fun r' v' => r' = r ∧ i_Rel (k + 3) u' v') v v1 v2) u v1 v2 := by
  refine qt_el (P := fun u v => wpX_move (fun r u' => wpY_move (fun r' v' => r' = r ∧ i_Rel (k + 3) u' v') v v1 v2) u v1 v2) ?_ I
  intro m op q Lm U W T own L bf H
  have R := qt_mk (k := k + 3) (bf := bf) H
  have Tr := qt_I_tr H
  unfold wpX_move wpY_move
  dsimp only
  by_cases hz : v1 = 0
  · exact br_t hz (br_t hz ⟨rfl, R⟩)
  · rcases qt_hs m 12 v1 with ⟨o, hol, ho, rfl⟩ | h
    · rcases qt_hs m 12 v2 with ⟨a, hal, ha, rfl⟩ | h
      · have h0 : o ≠ 0 := fun e => hz (by rw [e]; rfl)
        refine br_f hz (qt_has1 hol ho (br_f qt_10 (qt_has1 hal ha (br_f qt_10 (qt_xBel Tr ha hol ?_)))))
        cases hn : qt_ub q a o with
        | true =>
          refine br_f qt_10 ?_
          refine br_f hz (qt_is1 hol ho (br_f qt_10 (qt_is1 hal ha (br_f qt_10 (qt_yUnd Tr ha hol ?_)))))
          rw [hn]
          exact br_f qt_10 ⟨rfl, R⟩
        | false =>
          have hqo := qt_tr_par Tr ho h0
          have hql := qt_tr_lt Tr hqo
          have hC := qt_I_tk H ho
          refine br_t rfl ⟨qt_in hol, nm_r (qt_n_a T hol) ⟨qt_in hol, ?_⟩⟩
          rw [qt_par_a q hol, qt_e_lt hql]
          refine qt_xCar Tr hqo ?_
          rw [qt_cr_m (fun j hj => qt_I_mo H ho (qt_ub_up hj))]
          have hj := qt_mv_j H ho ha hn
          refine ⟨13, qt_xMv Tr ho ha (qt_I_lm H) ?_ hC ?_⟩
          · intro j hjb
            have h1 := qt_I_tk H hjb
            cases e : qt_ub q (q o) j with
            | true => rw [qt_sb_t e]; omega
            | false => rw [qt_sb_f e]; exact h1
          · intro b' hb'
            cases b' with
            | false =>
              have hno : qt_al (qt_bd m (qt_u q o a) (qt_ad q a (T o) (qt_sb q (q o) (T o) T)) T Lm a) 12 = false := Bool.eq_false_iff.mpr (fun h => absurd (hb'.mpr (hj.mp h)) (by decide))
              refine br_t rfl ⟨qt_in hol, ?_⟩
              rw [qt_par_a q hol, qt_e_lt hql]
              refine qt_xCar Tr hqo ?_
              rw [qt_cr_n, qt_back H ho]
              refine br_f hz (qt_is1 hol ho (br_f qt_10 (qt_is1 hal ha (br_f qt_10 (qt_yUnd Tr ha hol ?_)))))
              rw [hn]
              refine br_t rfl (qt_yMv H h0 ho ha hn ?_)
              intro bf' b hb
              rw [hno] at hb
              exact ⟨fun _ => ⟨rfl, qt_mk H⟩, fun h => by rw [hb] at h; exact absurd h (by decide)⟩
            | true =>
              have hyes : qt_al (qt_bd m (qt_u q o a) (qt_ad q a (T o) (qt_sb q (q o) (T o) T)) T Lm a) 12 = true := hj.mpr (hb'.mp rfl)
              refine br_f qt_10 ⟨qt_in hol, nm_r (qt_par_b q hol hal) ?_⟩
              refine qt_xCar (qt_mv_tr Tr h0 ho ha hn) ha ?_
              rw [qt_cr_n, qt_ad_ch hol hn]
              refine br_f hz (qt_is1 hol ho (br_f qt_10 (qt_is1 hal ha (br_f qt_10 (qt_yUnd Tr ha hol ?_)))))
              rw [hn]
              refine br_t rfl (qt_yMv H h0 ho ha hn ?_)
              intro bf' b hb
              rw [hyes] at hb
              exact ⟨fun h => (by rw [hb] at h; exact absurd h (by decide)), fun _ => ⟨rfl, qt_mk (qt_k_mov H h0 ho ha hn)⟩⟩
      · exact br_f hz (qt_has1 hol ho (br_f qt_10 (qt_has0 h (br_t rfl (br_f hz (qt_is1 hol ho (br_f qt_10 (qt_is0 h (br_t rfl ⟨rfl, R⟩)))))))))
    · exact br_f hz (qt_has0 h (br_t rfl (br_f hz (qt_is0 h (br_t rfl ⟨rfl, R⟩)))))
end
