section
/-! bits of Int32 -/
def lc_bt (x : Int32) (i : Nat) : Bool := x.toBitVec.getLsbD i
theorem lc_ext {x y : Int32} (h : ∀ i, i < 32 → lc_bt x i = lc_bt y i) : x = y := Int32.toBitVec_inj.mp (BitVec.eq_of_getLsbD_eq (fun i hi => h i hi))
theorem lc_extI {x y : Int32} (h : ∀ i, i < 32 → (lc_bt x i = true ↔ lc_bt y i = true)) : x = y := lc_ext (fun i hi => Bool.eq_iff_iff.mpr (h i hi))
theorem lc_or (x y : Int32) (i : Nat) : lc_bt (x ||| y) i = (lc_bt x i || lc_bt y i) := by unfold lc_bt; rw [Int32.toBitVec_or, BitVec.getLsbD_or]
theorem lc_and (x y : Int32) (i : Nat) : lc_bt (x &&& y) i = (lc_bt x i && lc_bt y i) := by unfold lc_bt; rw [Int32.toBitVec_and, BitVec.getLsbD_and]
theorem lc_xor (x y : Int32) (i : Nat) : lc_bt (x ^^^ y) i = (lc_bt x i ^^ lc_bt y i) := by unfold lc_bt; rw [Int32.toBitVec_xor, BitVec.getLsbD_xor]
theorem lc_big {x : Int32} {i : Nat} (h : 32 ≤ i) : lc_bt x i = false := BitVec.getLsbD_of_ge _ _ h
theorem lc_m1 : ∀ i, i < 32 → lc_bt (-1) i = true := by decide +kernel
theorem lc_0 (i : Nat) : lc_bt 0 i = false := BitVec.getLsbD_zero
theorem lc_b32 {x : Int32} {i : Nat} (h : lc_bt x i = true) : i < 32 := by
  rcases Nat.lt_or_ge i 32 with z | z
  · exact z
  · rw [lc_big z] at h; exact absurd h (by decide)
theorem lc_not (x : Int32) {i : Nat} (hi : i < 32) : lc_bt (x ^^^ (-1)) i = !lc_bt x i := by rw [lc_xor, lc_m1 i hi, Bool.xor_true]
theorem lc_sl : ∀ n, n < 32 → ((nI n &&& 31).toBitVec.smod 32).toNat = n := by decide +kernel
theorem lc_shl (n : Nat) (hn : n < 32) (x : Int32) {i : Nat} (hi : i < 32) : lc_bt (x <<< (nI n &&& 31)) i = (decide (n ≤ i) && lc_bt x (i - n)) := by
  unfold lc_bt
  rw [Int32.toBitVec_shiftLeft]
  show (x.toBitVec <<< ((nI n &&& 31).toBitVec.smod 32).toNat).getLsbD i = _
  rw [lc_sl n hn, BitVec.getLsbD_shiftLeft]
  rcases Nat.lt_or_ge i n with h | h
  · simp [h, Nat.not_le.mpr h]
  · simp [hi, h, Nat.not_lt.mpr h]
theorem lc_sshr (n : Nat) (hn : n < 32) (x : Int32) {i : Nat} (hi : i < 32) : lc_bt (x >>> (nI n &&& 31)) i = if n + i < 32 then lc_bt x (n + i) else lc_bt x 31 := by
  unfold lc_bt
  rw [Int32.toBitVec_shiftRight]
  show (x.toBitVec.sshiftRight ((nI n &&& 31).toBitVec.smod 32).toNat).getLsbD i = _
  rw [lc_sl n hn, BitVec.getLsbD_sshiftRight, BitVec.msb_eq_getLsbD_last]
  simp [hi]
theorem lc_b1 : ∀ i, i < 32 → lc_bt 1 i = decide (i = 0) := by decide +kernel
theorem lc_bF : ∀ i, i < 32 → lc_bt 16777216 i = decide (i = 24) := by decide +kernel
theorem lc_bM : ∀ i, i < 32 → lc_bt 16777215 i = decide (i < 24) := by decide +kernel
theorem lc_b15 : ∀ i, i < 32 → lc_bt 15 i = decide (i < 4) := by decide +kernel
theorem lc_one (n : Nat) (hn : n < 32) {i : Nat} (hi : i < 32) : lc_bt ((1 : Int32) <<< (nI n &&& 31)) i = decide (i = n) := by
  rw [lc_shl n hn 1 hi, lc_b1 _ (by omega)]
  by_cases h : n ≤ i
  · by_cases e : i = n
    · subst e; simp
    · rw [decide_eq_true h, decide_eq_false (show ¬ i - n = 0 by omega), decide_eq_false e]; rfl
  · rw [decide_eq_false h, decide_eq_false (show ¬ i = n by omega)]; rfl
theorem lc_val (x : Int32) (n : Nat) (hn : n < 32) : (x >>> (nI n &&& 31)) &&& 1 = nI (if lc_bt x n = true then 1 else 0) := by
  apply lc_ext
  intro i hi
  rw [lc_and, lc_sshr n hn x hi, lc_b1 i hi]
  by_cases e : i = 0
  · subst e
    rw [Nat.add_zero, if_pos hn, decide_eq_true rfl, Bool.and_true]
    cases lc_bt x n
    · exact (by decide +kernel : lc_bt (nI 0) 0 = false).symm
    · exact (by decide +kernel : lc_bt (nI 1) 0 = true).symm
  · rw [decide_eq_false e, Bool.and_false]
    cases lc_bt x n
    · exact (lc_0 i).symm
    · exact ((lc_b1 i hi).trans (decide_eq_false e)).symm
theorem lc_t1 (x : Int32) (n : Nat) (hn : n < 32) : ((x >>> (nI n &&& 31)) &&& 1) = 1 ↔ lc_bt x n = true := by
  rw [lc_val x n hn]
  cases lc_bt x n
  · exact ⟨fun z => absurd z (by decide), fun z => absurd z (by decide)⟩
  · exact ⟨fun _ => rfl, fun _ => rfl⟩
theorem lc_t0 (x : Int32) (n : Nat) (hn : n < 32) : ((x >>> (nI n &&& 31)) &&& 1) = 0 ↔ ¬ lc_bt x n = true := by
  rw [lc_val x n hn]
  cases lc_bt x n
  · exact ⟨fun _ => by decide, fun _ => rfl⟩
  · exact ⟨fun z => absurd z (by decide), fun z => absurd rfl z⟩
theorem lc_eq0 {x : Int32} : x = 0 ↔ ∀ i, i < 32 → ¬ lc_bt x i = true := by
  constructor
  · intro h i _; rw [h, lc_0]; decide
  · intro h
    apply lc_extI
    intro i hi
    rw [lc_0]
    exact ⟨fun z => absurd z (h i hi), fun z => absurd z (by decide)⟩
theorem lc_ne0 {x : Int32} : ¬ x = 0 ↔ ∃ i, i < 32 ∧ lc_bt x i = true := by
  rw [lc_eq0]
  constructor
  · intro h
    rcases Classical.em (∃ i, i < 32 ∧ lc_bt x i = true) with z | z
    · exact z
    · exact absurd (fun i hi g => z ⟨i, hi, g⟩) h
  · rintro ⟨i, hi, g⟩ h
    exact h i hi g
theorem lc_f0 (x : Int32) : x &&& 16777216 = 0 ↔ ¬ lc_bt x 24 = true := by
  rw [lc_eq0]
  constructor
  · intro h g
    apply h 24 (by omega)
    rw [lc_and, g]; decide +kernel
  · intro h i hi g
    rw [lc_and, lc_bF i hi] at g
    by_cases e : i = 24
    · subst e; rw [decide_eq_true rfl, Bool.and_true] at g; exact h g
    · rw [decide_eq_false e, Bool.and_false] at g; exact absurd g (by decide)
theorem lc_sh0 (x : Int32) (n : Nat) (hn : n < 32) : x >>> (nI n &&& 31) = 0 ↔ ∀ i, n ≤ i → i < 32 → ¬ lc_bt x i = true := by
  rw [lc_eq0]
  constructor
  · intro h i h1 h2 g
    apply h (i - n) (by omega)
    rw [lc_sshr n hn x (by omega), show n + (i - n) = i by omega, if_pos h2]
    exact g
  · intro h i hi g
    rw [lc_sshr n hn x hi] at g
    by_cases e : n + i < 32
    · rw [if_pos e] at g; exact h _ (by omega) e g
    · rw [if_neg e] at g; exact h 31 (by omega) (by omega) g
theorem lc_oreq {x y : Int32} : x ||| y = x ↔ ∀ i, i < 32 → lc_bt y i = true → lc_bt x i = true := by
  constructor
  · intro h i _ g
    rw [← h, lc_or, g, Bool.or_true]
  · intro h
    apply lc_extI
    intro i hi
    rw [lc_or, Bool.or_eq_true]
    exact ⟨fun z => z.elim id (h i hi), Or.inl⟩
theorem lc_orT {x y : Int32} {i : Nat} : lc_bt (x ||| y) i = true ↔ lc_bt x i = true ∨ lc_bt y i = true := by rw [lc_or, Bool.or_eq_true]
theorem lc_andT {x y : Int32} {i : Nat} : lc_bt (x &&& y) i = true ↔ lc_bt x i = true ∧ lc_bt y i = true := by rw [lc_and, Bool.and_eq_true]
theorem lc_oneT (n : Nat) (hn : n < 32) {i : Nat} (hi : i < 32) : lc_bt ((1 : Int32) <<< (nI n &&& 31)) i = true ↔ i = n := by rw [lc_one n hn hi, decide_eq_true_iff]
theorem lc_notT (x : Int32) {i : Nat} (hi : i < 32) : lc_bt (x ^^^ (-1)) i = true ↔ ¬ lc_bt x i = true := by rw [lc_not x hi]; cases lc_bt x i <;> decide
theorem lc_0F {i : Nat} : ¬ lc_bt 0 i = true := by rw [lc_0]; decide
theorem lc_FT {i : Nat} (hi : i < 32) : lc_bt 16777216 i = true ↔ i = 24 := by rw [lc_bF i hi, decide_eq_true_iff]
theorem lc_MT {i : Nat} (hi : i < 32) : lc_bt 16777215 i = true ↔ i < 24 := by rw [lc_bM i hi, decide_eq_true_iff]
theorem lc_15T {i : Nat} (hi : i < 32) : lc_bt 15 i = true ↔ i < 4 := by rw [lc_b15 i hi, decide_eq_true_iff]
theorem lc_and3 (a : Nat) (h : a < 2 ^ 31) : nI a &&& 3 = nI (a % 4) := pk_andN (by omega) 2 (by decide)
/-! counts and sums -/
noncomputable def lc_cn (P : Nat → Prop) : Nat → Nat
  | 0 => 0
  | k + 1 => lc_cn P k + @ite Nat (P k) (Classical.propDecidable _) 1 0
theorem lc_cn_s (P : Nat → Prop) (k : Nat) : (P k ∧ lc_cn P (k + 1) = lc_cn P k + 1) ∨ (¬ P k ∧ lc_cn P (k + 1) = lc_cn P k) := by
  unfold lc_cn
  rcases Classical.em (P k) with h | h
  · left; rw [if_pos h]; exact ⟨h, by cases k <;> rfl⟩
  · right; rw [if_neg h]; exact ⟨h, by cases k <;> rfl⟩
theorem lc_cn_t {P : Nat → Prop} {k : Nat} (h : P k) : lc_cn P (k + 1) = lc_cn P k + 1 := by
  rcases lc_cn_s P k with z | z
  · exact z.2
  · exact absurd h z.1
theorem lc_cn_f {P : Nat → Prop} {k : Nat} (h : ¬ P k) : lc_cn P (k + 1) = lc_cn P k := by
  rcases lc_cn_s P k with z | z
  · exact absurd z.1 h
  · exact z.2
theorem lc_cn_0 (P : Nat → Prop) : lc_cn P 0 = 0 := rfl
theorem lc_cn_b (P : Nat → Prop) (n : Nat) : lc_cn P n ≤ n := by
  induction n with
  | zero => exact Nat.le_refl 0
  | succ n ih => rcases lc_cn_s P n with z | z <;> omega
theorem lc_cn_le {P Q : Nat → Prop} {n : Nat} (h : ∀ i, i < n → P i → Q i) : lc_cn P n ≤ lc_cn Q n := by
  induction n with
  | zero => exact Nat.le_refl 0
  | succ n ih =>
    have t := ih (fun i hi => h i (by omega))
    rcases lc_cn_s P n with z | z
    · rw [z.2, lc_cn_t (h n (by omega) z.1)]; omega
    · rcases lc_cn_s Q n with y | y <;> omega
theorem lc_cn_eq {P Q : Nat → Prop} {n : Nat} (h : ∀ i, i < n → (P i ↔ Q i)) : lc_cn P n = lc_cn Q n :=
  Nat.le_antisymm (lc_cn_le (fun i hi => (h i hi).mp)) (lc_cn_le (fun i hi => (h i hi).mpr))
theorem lc_cn_lt {P Q : Nat → Prop} {n : Nat} (h : ∀ i, i < n → P i → Q i) (e : ∃ i, i < n ∧ Q i ∧ ¬ P i) : lc_cn P n < lc_cn Q n := by
  induction n with
  | zero => obtain ⟨i, hi, _⟩ := e; omega
  | succ n ih =>
    obtain ⟨i, hi, h1, h2⟩ := e
    have le := lc_cn_le (P := P) (Q := Q) (n := n) (fun i hi => h i (by omega))
    rcases Nat.lt_or_ge i n with z | z
    · have t := ih (fun i hi => h i (by omega)) ⟨i, z, h1, h2⟩
      rcases lc_cn_s P n with y | y
      · rw [y.2, lc_cn_t (h n (by omega) y.1)]; omega
      · rcases lc_cn_s Q n with w | w <;> omega
    · have e : i = n := by omega
      subst e
      rw [lc_cn_t h1, lc_cn_f h2]; omega
theorem lc_cn_full {P : Nat → Prop} {n : Nat} (e : ∃ i, i < n ∧ ¬ P i) : lc_cn P n < n := by
  have t := lc_cn_lt (P := P) (Q := fun _ => True) (n := n) (fun _ _ _ => trivial) (by obtain ⟨i, hi, g⟩ := e; exact ⟨i, hi, trivial, g⟩)
  exact Nat.lt_of_lt_of_le t (lc_cn_b _ _)
theorem lc_cn_ins {P Q : Nat → Prop} {n k : Nat} (hk : k < n) (hP : ¬ P k) (hQ : Q k) (h : ∀ i, i < n → i ≠ k → (P i ↔ Q i)) : lc_cn Q n = lc_cn P n + 1 := by
  induction n with
  | zero => omega
  | succ n ih =>
    by_cases e : k = n
    · subst e
      rw [lc_cn_t hQ, lc_cn_f hP, lc_cn_eq (P := P) (Q := Q) (fun i hi => h i (by omega) (by omega))]
    · have t := ih (by omega) (fun i hi => h i (by omega))
      have g := h n (by omega) (by omega)
      rcases lc_cn_s P n with y | y
      · rw [y.2, lc_cn_t (g.mp y.1)]; omega
      · rw [y.2, lc_cn_f (fun z => y.1 (g.mpr z))]; omega
theorem lc_cn_ex {P : Nat → Prop} {n m : Nat} (hnm : n ≤ m) (h : ∀ i, n ≤ i → i < m → ¬ P i) : lc_cn P m = lc_cn P n := by
  induction m with
  | zero => rw [show n = 0 by omega]
  | succ m ih =>
    by_cases e : n = m + 1
    · rw [e]
    · rw [lc_cn_f (h m (by omega) (by omega))]
      exact ih (by omega) (fun i h1 h2 => h i h1 (by omega))
def lc_sm (f : Nat → Nat) : Nat → Nat
  | 0 => 0
  | k + 1 => lc_sm f k + f k
theorem lc_sm_le {f g : Nat → Nat} {n : Nat} (h : ∀ i, i < n → f i ≤ g i) : lc_sm f n ≤ lc_sm g n := by
  induction n with
  | zero => exact Nat.le_refl 0
  | succ n ih => exact Nat.add_le_add (ih (fun i hi => h i (by omega))) (h n (by omega))
theorem lc_sm_lt {f g : Nat → Nat} {n k : Nat} (h : ∀ i, i < n → f i ≤ g i) (hk : k < n) (e : f k < g k) : lc_sm f n < lc_sm g n := by
  induction n with
  | zero => omega
  | succ n ih =>
    by_cases z : k = n
    · subst z
      have t := lc_sm_le (f := f) (g := g) (n := k) (fun i hi => h i (by omega))
      show lc_sm f k + f k < lc_sm g k + g k
      omega
    · have t := ih (fun i hi => h i (by omega)) (by omega)
      have t2 := h n (by omega)
      show lc_sm f n + f n < lc_sm g n + g n
      omega
theorem lc_sm_b {f : Nat → Nat} {n c : Nat} (h : ∀ i, i < n → f i ≤ c) : lc_sm f n ≤ n * c := by
  induction n with
  | zero => exact Nat.zero_le _
  | succ n ih =>
    have t := ih (fun i hi => h i (by omega))
    have t2 := h n (by omega)
    show lc_sm f n + f n ≤ (n + 1) * c
    rw [Nat.succ_mul]
    omega
end
section
/-! the picture's meaning: edges, reached, held, empty, wanted, conflicts -/
def lc_wf (n : Nat) (K A B : Nat → Nat) : Prop := n ≤ 24 ∧ ∀ p, p < n → K p ≤ 10 ∧ A p ≤ 24 ∧ B p < 4 ∧ (K p ≤ 8 → A p < 4)
def lc_E (n : Nat) (K A : Nat → Nat) (p i q : Nat) : Prop := p < n ∧ q < n ∧ ((i = 0 ∧ K p ≠ 9 ∧ q = p + 1) ∨ (i = 0 ∧ K p = 9 ∧ q = A p) ∨ (i = 1 ∧ K p = 10 ∧ q = A p))
def lc_R (n : Nat) (K A : Nat → Nat) (p : Nat) : Prop := ∀ S : Nat → Prop, (0 < n → S 0) → (∀ p i q, S p → lc_E n K A p i q → S q) → S p
def lc_hd (K A B : Nat → Nat) (p r r' : Nat) : Prop := (K p = 5 ∧ B p = r ∧ r' = A p) ∨ (K p = 6 ∧ B p = r ∧ (r' = r ∨ r' = A p)) ∨ (¬ (K p = 5 ∧ B p = r) ∧ ¬ (K p = 6 ∧ B p = r) ∧ ¬ (((3 ≤ K p ∧ K p ≤ 6) ∨ K p = 8) ∧ A p = r) ∧ r' = r)
def lc_gn (K A B : Nat → Nat) (b p r : Nat) : Prop := (b = p ∧ b < 24 ∧ (K p = 3 ∨ K p = 4) ∧ r = A p) ∨ (b = 24 ∧ K p = 8 ∧ r = A p) ∨ (b = 24 ∧ K p = 5 ∧ A p ≠ B p ∧ r = B p)
def lc_H (n : Nat) (K A B : Nat → Nat) (b p r : Nat) : Prop := ∀ S : Nat → Nat → Prop, (b = 24 → 0 < n → ∀ r, r < 4 → S 0 r) → (∀ p i q r, lc_R n K A p → lc_gn K A B b p r → lc_E n K A p i q → S q r) → (∀ p i q r r', S p r → lc_E n K A p i q → lc_hd K A B p r r' → S q r') → S p r
def lc_M (n : Nat) (K A : Nat → Nat) (p o : Nat) : Prop := ∀ S : Nat → Nat → Prop, (0 < n → ∀ o, o < 4 → S 0 o) → (∀ p i q, lc_R n K A p → lc_E n K A p i q → K p = 2 → S q (A p)) → (∀ p i q o, S p o → lc_E n K A p i q → ¬ (K p = 0 ∧ A p = o) → S q o) → S p o
def lc_W (n : Nat) (K A B : Nat → Nat) (p r : Nat) : Prop := ∀ S : Nat → Nat → Prop, (∀ p, p < n → K p = 7 → S p (A p)) → (∀ p i q r r', lc_E n K A p i q → lc_hd K A B p r r' → S q r' → S p r) → S p r
def lc_ow (K A B : Nat → Nat) (p o : Nat) : Prop := (K p ≤ 2 ∧ o = A p) ∨ ((K p = 3 ∨ K p = 4) ∧ o = B p)
def lc_D (K A B : Nat → Nat) (p b : Nat) : Prop := (K b = 3 ∨ K b = 4) ∧ lc_ow K A B p (B b) ∧ ((K p = 0 ∨ K p = 2 ∨ K p = 4) ∨ K b = 4)
def lc_Cf (n : Nat) (K A B : Nat → Nat) (b p : Nat) : Prop := ∃ r i q r', lc_H n K A B b p r ∧ lc_hd K A B p r r' ∧ lc_E n K A p i q ∧ lc_W n K A B q r'
def lc_C (n : Nat) (K A B : Nat → Nat) (b p : Nat) : Prop := b < n ∧ lc_D K A B p b ∧ lc_Cf n K A B b p
def lc_U (n : Nat) (K A B : Nat → Nat) (p : Nat) : Prop := ∃ o, lc_ow K A B p o ∧ K p ≠ 0 ∧ lc_M n K A p o
def lc_I (n : Nat) (K A B : Nat → Nat) (p : Nat) : Prop := K p = 7 ∧ lc_H n K A B 24 p (A p)
def lc_F (n : Nat) (K A B : Nat → Nat) (p : Nat) : Prop := (∃ b, lc_C n K A B b p) ∨ lc_U n K A B p ∨ lc_I n K A B p
section
variable {n : Nat} {K A B : Nat → Nat}
theorem lc_E_f {p i q q' : Nat} (h : lc_E n K A p i q) (h' : lc_E n K A p i q') : q = q' := by
  obtain ⟨_, _, h⟩ := h
  obtain ⟨_, _, h'⟩ := h'
  rcases h with ⟨_, _, _⟩ | ⟨_, _, _⟩ | ⟨_, _, _⟩ <;> rcases h' with ⟨_, _, _⟩ | ⟨_, _, _⟩ | ⟨_, _, _⟩ <;> omega
theorem lc_E_i {p i q : Nat} (h : lc_E n K A p i q) : i < 2 := by
  obtain ⟨_, _, h⟩ := h
  rcases h with ⟨_, _, _⟩ | ⟨_, _, _⟩ | ⟨_, _, _⟩ <;> omega
theorem lc_R_0 (h : 0 < n) : lc_R n K A 0 := fun _ h0 _ => h0 h
theorem lc_R_s {p i q : Nat} (h : lc_R n K A p) (e : lc_E n K A p i q) : lc_R n K A q := fun S h0 hs => hs p i q (h S h0 hs) e
theorem lc_R_lt {p : Nat} (h : lc_R n K A p) : p < n := h (fun p => p < n) id (fun _ _ _ _ e => e.2.1)
theorem lc_H_0 {r : Nat} (h : 0 < n) (hr : r < 4) : lc_H n K A B 24 0 r := fun _ h0 _ _ => h0 rfl h r hr
theorem lc_H_g {b p i q r : Nat} (h : lc_R n K A p) (g : lc_gn K A B b p r) (e : lc_E n K A p i q) : lc_H n K A B b q r := fun _ _ hg _ => hg p i q r h g e
theorem lc_H_s {b p i q r r' : Nat} (h : lc_H n K A B b p r) (e : lc_E n K A p i q) (d : lc_hd K A B p r r') : lc_H n K A B b q r' := fun S h0 hg hs => hs p i q r r' (h S h0 hg hs) e d
theorem lc_H_R {b p r : Nat} (h : lc_H n K A B b p r) : lc_R n K A p :=
  h (fun p _ => lc_R n K A p) (fun _ h0 _ _ => lc_R_0 h0) (fun _ _ _ _ h _ e => lc_R_s h e) (fun _ _ _ _ _ h e _ => lc_R_s h e)
theorem lc_H_lt {b p r : Nat} (h : lc_H n K A B b p r) : p < n := lc_R_lt (lc_H_R h)
theorem lc_gn_4 {b p r : Nat} (w : lc_wf n K A B) (hp : p < n) (h : lc_gn K A B b p r) : r < 4 := by
  obtain ⟨_, _, hB, hA⟩ := w.2 p hp
  rcases h with ⟨_, _, h, e⟩ | ⟨_, h, e⟩ | ⟨_, h, _, e⟩
  · rw [e]; exact hA (by omega)
  · rw [e]; exact hA (by omega)
  · rw [e]; exact hB
theorem lc_hd_4 {p r r' : Nat} (w : lc_wf n K A B) (hp : p < n) (hr : r < 4) (h : lc_hd K A B p r r') : r' < 4 := by
  obtain ⟨_, _, hB, hA⟩ := w.2 p hp
  rcases h with ⟨h, _, e⟩ | ⟨h, _, e | e⟩ | ⟨_, _, _, e⟩
  · rw [e]; exact hA (by omega)
  · rw [e]; exact hr
  · rw [e]; exact hA (by omega)
  · rw [e]; exact hr
theorem lc_hd_b4 {p r r' : Nat} (w : lc_wf n K A B) (hp : p < n) (hr : r' < 4) (h : lc_hd K A B p r r') : r < 4 := by
  obtain ⟨_, _, hB, hA⟩ := w.2 p hp
  rcases h with ⟨h, e, _⟩ | ⟨h, e, _⟩ | ⟨_, _, _, e⟩
  · rw [← e]; exact hB
  · rw [← e]; exact hB
  · rw [← e]; exact hr
theorem lc_H_4 {b p r : Nat} (w : lc_wf n K A B) (h : lc_H n K A B b p r) : r < 4 :=
  h (fun _ r => r < 4) (fun _ _ _ hr => hr) (fun _ _ _ _ _ g e => lc_gn_4 w e.1 g) (fun _ _ _ _ _ hr e d => lc_hd_4 w e.1 hr d)
theorem lc_gn_24 {b p r : Nat} (h : lc_gn K A B b p r) : b ≤ 24 := by
  rcases h with ⟨_, _, h, e⟩ | ⟨_, h, e⟩ | ⟨_, h, _, e⟩ <;> omega
theorem lc_H_24 {b p r : Nat} (h : lc_H n K A B b p r) : b ≤ 24 :=
  h (fun _ _ => b ≤ 24) (fun e _ _ _ => by omega) (fun _ _ _ _ _ g _ => lc_gn_24 g) (fun _ _ _ _ _ h _ _ => h)
theorem lc_H_n {b p r : Nat} (h : lc_H n K A B b p r) (hb : b < 24) : b < n :=
  h (fun _ _ => b < n) (fun e _ _ _ => by omega) (fun p _ _ _ _ g e => by
    have := e.1
    rcases g with ⟨_, _, h, e⟩ | ⟨_, h, e⟩ | ⟨_, h, _, e⟩ <;> omega) (fun _ _ _ _ _ h _ _ => h)
theorem lc_gh (w : lc_wf n K A B) {p r : Nat} (hp : p < n) (hr : r < 4) : (∃ b, lc_gn K A B b p r) ∨ ∃ r0, r0 < 4 ∧ lc_hd K A B p r0 r := by
  obtain ⟨_, _, hB, hA⟩ := w.2 p hp
  have hn := w.1
  by_cases h34 : (K p = 3 ∨ K p = 4) ∧ r = A p
  · exact Or.inl ⟨p, Or.inl ⟨rfl, by omega, h34.1, h34.2⟩⟩
  by_cases h8 : K p = 8 ∧ r = A p
  · exact Or.inl ⟨24, Or.inr (Or.inl ⟨rfl, h8.1, h8.2⟩)⟩
  by_cases h5 : K p = 5 ∧ A p ≠ B p ∧ r = B p
  · exact Or.inl ⟨24, Or.inr (Or.inr ⟨rfl, h5⟩)⟩
  right
  by_cases h56 : (K p = 5 ∨ K p = 6) ∧ r = A p
  · refine ⟨B p, hB, ?_⟩
    rcases h56.1 with e | e
    · exact Or.inl ⟨e, rfl, h56.2⟩
    · exact Or.inr (Or.inl ⟨e, rfl, Or.inr h56.2⟩)
  · refine ⟨r, hr, ?_⟩
    by_cases h6 : K p = 6 ∧ B p = r
    · exact Or.inr (Or.inl ⟨h6.1, h6.2, Or.inl rfl⟩)
    · exact Or.inr (Or.inr ⟨by omega, h6, by omega, rfl⟩)
theorem lc_H_ne (w : lc_wf n K A B) {p : Nat} (h : lc_R n K A p) : ∀ r, r < 4 → ∃ b, lc_H n K A B b p r := by
  have t := h (fun p => lc_R n K A p ∧ ∀ r, r < 4 → ∃ b, lc_H n K A B b p r) (fun h0 => ⟨lc_R_0 h0, fun r hr => ⟨24, lc_H_0 h0 hr⟩⟩) (fun p i q h e => by
    refine ⟨lc_R_s h.1 e, fun r hr => ?_⟩
    rcases lc_gh w e.1 hr with ⟨b, g⟩ | ⟨r0, hr0, d⟩
    · exact ⟨b, lc_H_g h.1 g e⟩
    · obtain ⟨b, hb⟩ := h.2 r0 hr0
      exact ⟨b, lc_H_s hb e d⟩)
  exact t.2
theorem lc_M_0 {o : Nat} (h : 0 < n) (ho : o < 4) : lc_M n K A 0 o := fun _ h0 _ _ => h0 h o ho
theorem lc_M_g {p i q : Nat} (h : lc_R n K A p) (e : lc_E n K A p i q) (k : K p = 2) : lc_M n K A q (A p) := fun _ _ hg _ => hg p i q h e k
theorem lc_M_s {p i q o : Nat} (h : lc_M n K A p o) (e : lc_E n K A p i q) (k : ¬ (K p = 0 ∧ A p = o)) : lc_M n K A q o := fun S h0 hg hs => hs p i q o (h S h0 hg hs) e k
theorem lc_M_R {p o : Nat} (h : lc_M n K A p o) : lc_R n K A p :=
  h (fun p _ => lc_R n K A p) (fun h0 _ _ => lc_R_0 h0) (fun _ _ _ h e _ => lc_R_s h e) (fun _ _ _ _ h e _ => lc_R_s h e)
theorem lc_M_4 {p o : Nat} (w : lc_wf n K A B) (h : lc_M n K A p o) : o < 4 :=
  h (fun _ o => o < 4) (fun _ _ ho => ho) (fun p _ _ _ e k => (w.2 p e.1).2.2.2 (by omega)) (fun _ _ _ _ h _ _ => h)
theorem lc_W_u {p : Nat} (hp : p < n) (k : K p = 7) : lc_W n K A B p (A p) := fun _ hu _ => hu p hp k
theorem lc_W_s {p i q r r' : Nat} (e : lc_E n K A p i q) (d : lc_hd K A B p r r') (h : lc_W n K A B q r') : lc_W n K A B p r := fun S hu hs => hs p i q r r' e d (h S hu hs)
theorem lc_W_lt {p r : Nat} (h : lc_W n K A B p r) : p < n := h (fun p _ => p < n) (fun _ h _ => h) (fun _ _ _ _ _ e _ _ => e.1)
theorem lc_W_4 {p r : Nat} (w : lc_wf n K A B) (h : lc_W n K A B p r) : r < 4 :=
  h (fun _ r => r < 4) (fun p h k => (w.2 p h).2.2.2 (by omega)) (fun _ _ _ _ _ e d h => lc_hd_b4 w e.1 h d)
/-- a point that touches an owner gives on what it doesn't give anew -/
theorem lc_ow_hd {p o r r' : Nat} (h : lc_ow K A B p o) : lc_hd K A B p r r' ↔ r' = r ∧ ¬ ((K p = 3 ∨ K p = 4) ∧ A p = r) := by
  have hk : K p ≤ 4 := by rcases h with ⟨h, _⟩ | ⟨h, _⟩ <;> omega
  unfold lc_hd
  omega
theorem lc_C_iff {b p : Nat} (w : lc_wf n K A B) : lc_C n K A B b p ↔ b < n ∧ lc_D K A B p b ∧ ∃ r, r < 4 ∧ lc_H n K A B b p r ∧ ¬ ((K p = 3 ∨ K p = 4) ∧ A p = r) ∧ ∃ i q, lc_E n K A p i q ∧ lc_W n K A B q r := by
  constructor
  · rintro ⟨hb, d, r, i, q, r', h, k, e, hw⟩
    obtain ⟨rfl, g⟩ := (lc_ow_hd d.2.1).mp k
    exact ⟨hb, d, r', lc_H_4 w h, h, g, i, q, e, hw⟩
  · rintro ⟨hb, d, r, hr, h, g, i, q, e, hw⟩
    exact ⟨hb, d, r, i, q, r, h, (lc_ow_hd d.2.1).mpr ⟨rfl, g⟩, e, hw⟩
theorem lc_C_sp {b p : Nat} (w : lc_wf n K A B) (h : lc_C n K A B b p) : ∃ r, r < 4 ∧ lc_H n K A B b p r ∧ lc_W n K A B p r := by
  obtain ⟨_, _, r, i, q, r', h, k, e, hw⟩ := h
  exact ⟨r, lc_H_4 w h, h, lc_W_s e k hw⟩
theorem lc_C_R {b p : Nat} (h : lc_C n K A B b p) : lc_R n K A p := by
  obtain ⟨_, _, r, i, q, r', h, k, e, hw⟩ := h
  exact lc_H_R h
theorem lc_F_R {p : Nat} (h : lc_F n K A B p) : lc_R n K A p := by
  rcases h with ⟨b, h⟩ | ⟨o, _, _, h⟩ | ⟨_, h⟩
  · exact lc_C_R h
  · exact lc_M_R h
  · exact lc_H_R h
end
/-! USE made RELEASE -/
def lc_rl (n : Nat) (K K' B B' : Nat → Nat) : Prop := ∀ p, p < n → (K' p = K p ∧ B' p = B p) ∨ (K p = 7 ∧ K' p = 8)
/-- the same but for USE and RELEASE -/
def lc_lk (n : Nat) (K K' : Nat → Nat) : Prop := ∀ p, p < n → K' p = K p ∨ ((K p = 7 ∨ K p = 8) ∧ (K' p = 7 ∨ K' p = 8))
section
variable {n : Nat} {K K' A B B' : Nat → Nat}
theorem lc_lk_s (h : lc_lk n K K') : lc_lk n K' K := fun p hp => by
  rcases h p hp with z | z
  · exact Or.inl z.symm
  · exact Or.inr ⟨z.2, z.1⟩
theorem lc_rl_lk (h : lc_rl n K K' B B') : lc_lk n K K' := fun p hp => by
  rcases h p hp with z | z
  · exact Or.inl z.1
  · exact Or.inr ⟨Or.inl z.1, Or.inr z.2⟩
theorem lc_lk_E (h : lc_lk n K K') {p i q : Nat} (e : lc_E n K A p i q) : lc_E n K' A p i q := by
  obtain ⟨h1, h2, h3⟩ := e
  refine ⟨h1, h2, ?_⟩
  have := h p h1
  omega
theorem lc_lk_R (h : lc_lk n K K') {p : Nat} (e : lc_R n K A p) : lc_R n K' A p :=
  e (fun p => lc_R n K' A p) (fun h0 => lc_R_0 h0) (fun _ _ _ z e => lc_R_s z (lc_lk_E h e))
theorem lc_lk_M (h : lc_lk n K K') {p o : Nat} (e : lc_M n K A p o) : lc_M n K' A p o :=
  e (fun p o => lc_M n K' A p o) (fun h0 _ ho => lc_M_0 h0 ho) (fun p _ _ z e k => lc_M_g (lc_lk_R h z) (lc_lk_E h e) (by have := h p e.1; omega))
    (fun p _ _ _ z e k => lc_M_s z (lc_lk_E h e) (by have := h p e.1; omega))
theorem lc_rl_hd (h : lc_rl n K K' B B') {p r r' : Nat} (hp : p < n) (d : lc_hd K' A B' p r r') : lc_hd K A B p r r' := by
  have := h p hp
  unfold lc_hd at d ⊢
  omega
theorem lc_rl_H (h : lc_rl n K K' B B') {b p r : Nat} (hb : b < 24) (d : lc_H n K' A B' b p r) : lc_H n K A B b p r :=
  d (fun p r => lc_H n K A B b p r) (fun e => by omega) (fun p i q r hR hg e => by
      refine lc_H_g (lc_lk_R (lc_lk_s (lc_rl_lk h)) hR) ?_ (lc_lk_E (lc_lk_s (lc_rl_lk h)) e)
      have := h p e.1
      unfold lc_gn at hg ⊢
      omega)
    (fun p i q r r' z e k => lc_H_s z (lc_lk_E (lc_lk_s (lc_rl_lk h)) e) (lc_rl_hd h e.1 k))
theorem lc_rl_W (h : lc_rl n K K' B B') {p r : Nat} (d : lc_W n K' A B' p r) : lc_W n K A B p r :=
  d (fun p r => lc_W n K A B p r) (fun p hp k => lc_W_u hp (by have := h p hp; omega)) (fun p i q r r' e k z => lc_W_s (lc_lk_E (lc_lk_s (lc_rl_lk h)) e) (lc_rl_hd h e.1 k) z)
theorem lc_rl_D (h : lc_rl n K K' B B') {p b : Nat} (hp : p < n) (hb : b < n) (d : lc_D K' A B' p b) : lc_D K A B p b := by
  have h1 := h p hp
  have h2 := h b hb
  unfold lc_D lc_ow at d ⊢
  omega
theorem lc_rl_C (w : lc_wf n K A B) (h : lc_rl n K K' B B') {b p : Nat} (d : lc_C n K' A B' b p) : lc_C n K A B b p := by
  obtain ⟨hb, hd, r, i, q, r', h1, h2, h3, h4⟩ := d
  have hn := w.1
  exact ⟨hb, lc_rl_D h h3.1 hb hd, r, i, q, r', lc_rl_H h (by omega) h1, lc_rl_hd h h3.1 h2, lc_lk_E (lc_lk_s (lc_rl_lk h)) h3, lc_rl_W h h4⟩
theorem lc_rl_U (h : lc_rl n K K' B B') {p : Nat} (hp : p < n) : lc_U n K' A B' p ↔ lc_U n K A B p := by
  have t := h p hp
  constructor
  · rintro ⟨o, h1, h2, h3⟩
    refine ⟨o, ?_, ?_, lc_lk_M (lc_lk_s (lc_rl_lk h)) h3⟩
    · unfold lc_ow at h1 ⊢; omega
    · unfold lc_ow at h1; omega
  · rintro ⟨o, h1, h2, h3⟩
    refine ⟨o, ?_, ?_, lc_lk_M (lc_rl_lk h) h3⟩
    · unfold lc_ow at h1 ⊢; omega
    · unfold lc_ow at h1; omega
theorem lc_rl_R (h : lc_rl n K K' B B') {p : Nat} : lc_R n K' A p ↔ lc_R n K A p := ⟨lc_lk_R (lc_lk_s (lc_rl_lk h)), lc_lk_R (lc_rl_lk h)⟩
end
end
section
/-! the arrays match the picture; small methods of the forward flow -/
def lc_P (n : Nat) (K A B : Nat → Nat) (a1 a2 a3 : Nat → Int32) : Prop := lc_wf n K A B ∧ ∀ p, p < n → a1 p = nI (K p) ∧ a2 p = nI (A p) ∧ a3 p = nI (B p)
theorem lc_ix (p r : Nat) : (4 : Int32) * nI p + nI r = nI (4 * p + r) := by
  show nI 4 * nI p + nI r = _
  rw [pk_mul, nI_add]
section
variable {n : Nat} {K A B : Nat → Nat} {c st g qd : Int32} {a1 a2 a3 a4 a5 a6 a7 a8 a9 a10 a11 : Nat → Int32}
theorem lc_w_behind {post : Int32 → Prop} {p i : Nat} (hP : lc_P n K A B a1 a2 a3) (hp : p < n) (hi : i < 2) (h0 : (∀ q, ¬ lc_E n K A p i q) → post (-1)) (h1 : ∀ q, lc_E n K A p i q → post (nI q)) :
    wpX_behind post (nI n, st, g, qd, a1, a2, a3, a4, a5, a6, a7, a8, a9, a10, a11) (nI p) (nI i) := by
  obtain ⟨hw, hv⟩ := hP
  obtain ⟨e1, e2, e3⟩ := hv p hp
  obtain ⟨k1, k2, k3, k4⟩ := hw.2 p hp
  have hn := hw.1
  have b50 : ∀ q, q ≤ 24 → (∀ q', lc_E n K A p i q' ↔ q' = q ∧ q < n) → wX_behind_50 post (nI q) (nI n) st g qd a1 a2 a3 a4 a5 a6 a7 a8 a9 a10 a11 := fun q hq f =>
    pk_le n q (fun z => h0 (fun q' e => by have := (f q').mp e; omega)) (fun z => h1 q ((f q).mpr ⟨rfl, z⟩))
  have b42 : (i = 1 ∧ K p = 10 ∨ i = 0 ∧ K p = 9) → wX_behind_42 post (nI p) (nI n) st g qd a1 a2 a3 a4 a5 a6 a7 a8 a9 a10 a11 := fun z => by
    unfold wX_behind_42
    refine ⟨pk_in p 24 (by omega), nm_r (by rw [nI_clamp (by omega), e2]) (b50 (A p) k2 (fun q' => ?_))⟩
    unfold lc_E; omega
  have b31 : (i = 1 ∧ K p = 10 ∨ i = 0) → wX_behind_31 post (nI p) (nI i) (nI (K p)) (nI (p + 1)) (nI n) st g qd a1 a2 a3 a4 a5 a6 a7 a8 a9 a10 a11 := fun z =>
    pk_eq (K p) 9 (fun y => b42 (by omega)) (fun y => pk_eq i 1 (fun x => b42 (by omega)) (fun x => b50 (p + 1) (by omega) (fun q' => by unfold lc_E; omega)))
  unfold wpX_behind
  refine ⟨pk_in p 24 (by omega), nm_r (by rw [nI_clamp (by omega), e1]) (nm_r (nI_1 p) ?_)⟩
  exact pk_eq (K p) 11 (fun z => absurd z (by omega)) (fun _ => pk_eq i 1 (fun zi => pk_eq (K p) 10 (fun z => b31 (by omega)) (fun z => h0 (fun q e => by unfold lc_E at e; omega))) (fun zi => b31 (by omega)))
theorem lc_ps {p : Nat} {h a : Nat → Int32}
    (H : ∀ r, r < 4 → (∃ g, (∀ b, b < 32 → (lc_bt (a r) b = true ↔ b = g)) ∧ (∀ b, lc_gn K A B b p r ↔ b = g) ∧ ∀ r0, ¬ lc_hd K A B p r0 r) ∨ (∃ r0, r0 < 4 ∧ a r = h r0 ∧ (∀ b, ¬ lc_gn K A B b p r) ∧ ∀ r1, lc_hd K A B p r1 r ↔ r1 = r0)) :
    ∀ r, r < 4 → ∀ b, b < 32 → (lc_bt (a r) b = true ↔ lc_gn K A B b p r ∨ ∃ r0, r0 < 4 ∧ lc_hd K A B p r0 r ∧ lc_bt (h r0) b = true) := by
  intro r hr b hb
  rcases H r hr with ⟨g, h1, h2, h3⟩ | ⟨r0, h0, h1, h2, h3⟩
  · rw [h1 b hb, h2 b]
    exact ⟨Or.inl, fun z => z.elim id (fun ⟨r0, _, z, _⟩ => absurd z (h3 r0))⟩
  · rw [h1]
    exact ⟨fun z => Or.inr ⟨r0, h0, (h3 r0).mpr rfl, z⟩, fun z => z.elim (fun z => absurd z (h2 b)) (fun ⟨r1, _, z, y⟩ => by rw [(h3 r1).mp z] at y; exact y)⟩
theorem lc_w_pass {post : St1 → Prop} {p : Nat} (hP : lc_P n K A B a1 a2 a3) (hp : p < n)
    (H : ∀ a, (∀ r, r < 4 → ∀ b, b < 32 → (lc_bt (a r) b = true ↔ lc_gn K A B b p r ∨ ∃ r0, r0 < 4 ∧ lc_hd K A B p r0 r ∧ lc_bt (a5 (4 * p + r0)) b = true)) → post (c, st, g, qd, a1, a2, a3, a4, a5, a6, a7, a8, a, a10, a11)) :
    wpX_passPoint post (c, st, g, qd, a1, a2, a3, a4, a5, a6, a7, a8, a9, a10, a11) (nI p) := by
  obtain ⟨hw, hv⟩ := hP
  obtain ⟨e1, e2, e3⟩ := hv p hp
  obtain ⟨k1, k2, k3, k4⟩ := hw.2 p hp
  have hn := hw.1
  refine pk_loop (fun m i s => wX_passPoint_2 post (nI p) c st g qd m (nI i) a1 a2 a3 a4 a5 a6 a7 a8 s a10 a11) (fun i s => ∀ r, r < i → s r = a5 (4 * p + r)) 4 0 a9 (by omega) (fun r hr => absurd hr (by omega)) ?_ ?_
  · intro m s hs
    have b53 : (K p = 3 ∨ K p = 4) → wX_passPoint_53 post (nI p) (nI (A p)) c st g qd a1 a2 a3 a4 a5 a6 a7 a8 s a10 a11 := fun hk => by
      unfold wX_passPoint_53
      have hA := k4 (by omega)
      refine ⟨pk_in (A p) 4 hA, nm_r (by rw [nI_clamp (by omega)]) (H _ (lc_ps (h := fun r => a5 (4 * p + r)) (fun r hr => ?_)))⟩
      by_cases e : r = A p
      · left
        subst e
        refine ⟨p, fun b hb => ?_, fun b => ?_, fun r0 => ?_⟩
        · rw [pk_us]; exact lc_oneT p (by omega) hb
        · unfold lc_gn; omega
        · unfold lc_hd; omega
      · right
        refine ⟨r, hr, ?_, fun b => ?_, fun r1 => ?_⟩
        · rw [pk_un e]; exact hs r hr
        · unfold lc_gn; omega
        · unfold lc_hd; omega
    have b76 : (K p = 5 ∨ K p = 6) → wX_passPoint_76 post (nI p) (nI (K p)) (nI (A p)) c st g qd a1 a2 a3 a4 a5 a6 a7 a8 s a10 a11 := fun hk => by
      unfold wX_passPoint_76
      have hA := k4 (by omega)
      have keep : (K p = 5 → A p = B p) → ∀ r, r < 4 → (∃ g, (∀ b, b < 32 → (lc_bt (upd (upd s (A p) (a5 (4 * p + B p))) (B p) (upd s (A p) (a5 (4 * p + B p)) (B p)) r) b = true ↔ b = g)) ∧ (∀ b, lc_gn K A B b p r ↔ b = g) ∧ ∀ r0, ¬ lc_hd K A B p r0 r) ∨ (∃ r0, r0 < 4 ∧ upd (upd s (A p) (a5 (4 * p + B p))) (B p) (upd s (A p) (a5 (4 * p + B p)) (B p)) r = (fun r => a5 (4 * p + r)) r0 ∧ (∀ b, ¬ lc_gn K A B b p r) ∧ ∀ r1, lc_hd K A B p r1 r ↔ r1 = r0) := by
        intro h5 r hr
        right
        have same : upd (upd s (A p) (a5 (4 * p + B p))) (B p) (upd s (A p) (a5 (4 * p + B p)) (B p)) r = upd s (A p) (a5 (4 * p + B p)) r := by
          by_cases e : r = B p
          · rw [e, pk_us]
          · rw [pk_un e]
        rw [same]
        by_cases e : r = A p
        · refine ⟨B p, k3, ?_, fun b => ?_, fun r1 => ?_⟩
          · rw [e, pk_us]
          · unfold lc_gn; omega
          · unfold lc_hd; omega
        · refine ⟨r, hr, ?_, fun b => ?_, fun r1 => ?_⟩
          · rw [pk_un e]; exact hs r hr
          · unfold lc_gn; omega
          · unfold lc_hd; omega
      refine ⟨pk_in p 24 (by omega), nm_r (by rw [nI_clamp (by omega), e3]) ⟨pk_in (4 * p + B p) 96 (by omega) (lc_ix p (B p)), pk_in (A p) 4 hA, nm_r (by rw [lc_ix, nI_clamp (by omega), nI_clamp (by omega)]) ?_⟩⟩
      refine pk_eq (K p) 5 (fun z5 => pk_eq (A p) (B p) (fun zz => ⟨pk_in (B p) 4 k3, pk_in (B p) 4 k3, nm_r (by rw [nI_clamp (by omega)]) (H _ (lc_ps (h := fun r => a5 (4 * p + r)) (keep (fun _ => zz))))⟩) (fun zz => ⟨pk_in (B p) 4 k3, nm_r (by rw [nI_clamp (by omega)]) (H _ (lc_ps (h := fun r => a5 (4 * p + r)) (fun r hr => ?_)))⟩))
        (fun z5 => ⟨pk_in (B p) 4 k3, pk_in (B p) 4 k3, nm_r (by rw [nI_clamp (by omega)]) (H _ (lc_ps (h := fun r => a5 (4 * p + r)) (keep (fun y => absurd y z5))))⟩)
      by_cases eb : r = B p
      · left
        refine ⟨24, fun b hb => ?_, fun b => ?_, fun r0 => ?_⟩
        · rw [eb, pk_us]; exact lc_FT hb
        · unfold lc_gn; omega
        · unfold lc_hd; omega
      · right
        rw [pk_un eb]
        by_cases e : r = A p
        · refine ⟨B p, k3, ?_, fun b => ?_, fun r1 => ?_⟩
          · rw [e, pk_us]
          · unfold lc_gn; omega
          · unfold lc_hd; omega
        · refine ⟨r, hr, ?_, fun b => ?_, fun r1 => ?_⟩
          · rw [pk_un e]; exact hs r hr
          · unfold lc_gn; omega
          · unfold lc_hd; omega
    refine pk_le 4 4 (fun _ => ⟨pk_in p 24 (by omega), nm_r (by rw [nI_clamp (by omega), e1]) ⟨pk_in p 24 (by omega), nm_r (by rw [nI_clamp (by omega), e2]) ?_⟩⟩) (fun z => absurd z (by omega))
    refine pk_eq (K p) 3 (fun z => b53 (Or.inl z)) (fun z3 => pk_eq (K p) 4 (fun z => b53 (Or.inr z)) (fun z4 => pk_eq (K p) 5 (fun z => b76 (Or.inl z)) (fun z5 => pk_eq (K p) 6 (fun z => b76 (Or.inr z)) (fun z6 => pk_eq (K p) 8 (fun z8 => ?_) (fun z8 => ?_)))))
    · have hA := k4 (by omega)
      refine ⟨pk_in (A p) 4 hA, nm_r (by rw [nI_clamp (by omega)]) (H _ (lc_ps (h := fun r => a5 (4 * p + r)) (fun r hr => ?_)))⟩
      by_cases e : r = A p
      · left
        refine ⟨24, fun b hb => ?_, fun b => ?_, fun r0 => ?_⟩
        · rw [e, pk_us]; exact lc_FT hb
        · unfold lc_gn; omega
        · unfold lc_hd; omega
      · right
        refine ⟨r, hr, ?_, fun b => ?_, fun r1 => ?_⟩
        · rw [pk_un e]; exact hs r hr
        · unfold lc_gn; omega
        · unfold lc_hd; omega
    · refine H _ (lc_ps (h := fun r => a5 (4 * p + r)) (fun r hr => Or.inr ⟨r, hr, hs r hr, fun b => ?_, fun r1 => ?_⟩))
      · unfold lc_gn; omega
      · unfold lc_hd; omega
  · intro m i s hi hs hw
    refine pk_le 4 i (fun z => absurd z (by omega)) (fun _ => ⟨pk_in (4 * p + i) 96 (by omega) (lc_ix p i), pk_in i 4 hi, nm_r (by rw [lc_ix, nI_clamp (by omega), nI_clamp (by omega)]) (nm_r (nI_1 i) (hw _ (fun r hr => ?_)))⟩)
    by_cases e : r = i
    · rw [e, pk_us]
    · rw [pk_un e]; exact hs r (by omega)
theorem lc_w_empty {post : Int32 → Prop} {p : Nat} (hP : lc_P n K A B a1 a2 a3) (hp : p < n)
    (H : ∀ x, (∀ o, o < 32 → (lc_bt x o = true ↔ (K p = 2 ∧ o = A p) ∨ (lc_bt (a6 p) o = true ∧ ¬ (K p = 0 ∧ A p = o)))) → post x) :
    wpX_emptyAfter post (c, st, g, qd, a1, a2, a3, a4, a5, a6, a7, a8, a9, a10, a11) (nI p) := by
  obtain ⟨hw, hv⟩ := hP
  obtain ⟨e1, e2, e3⟩ := hv p hp
  obtain ⟨k1, k2, k3, k4⟩ := hw.2 p hp
  have hn := hw.1
  have hc : (nI p).toNatClampNeg = p := nI_clamp (by omega)
  unfold wpX_emptyAfter
  refine ⟨pk_in p 24 (by omega), nm_r (by rw [hc, e2, lc_and3 _ (by omega)]) ⟨pk_in p 24 (by omega), ?_⟩⟩
  rw [hc, e1]
  refine pk_eq (K p) 0 (fun z => ⟨pk_in p 24 (by omega), H _ (fun o ho => ?_)⟩) (fun z0 => ⟨pk_in p 24 (by omega), pk_eq (K p) 2 (fun z => ⟨pk_in p 24 (by omega), H _ (fun o ho => ?_)⟩) (fun z2 => ⟨pk_in p 24 (by omega), H _ (fun o ho => ?_)⟩)⟩)
  · have hA := k4 (by omega)
    rw [lc_andT, lc_notT _ ho, lc_oneT _ (by omega) ho]
    constructor
    · intro ⟨y, x⟩; exact Or.inr ⟨y, by omega⟩
    · intro y
      rcases y with y | ⟨y, x⟩
      · omega
      · exact ⟨y, by omega⟩
  · have hA := k4 (by omega)
    rw [lc_orT, lc_oneT _ (by omega) ho]
    constructor
    · intro y
      rcases y with y | y
      · exact Or.inr ⟨y, by omega⟩
      · exact Or.inl ⟨z, by omega⟩
    · intro y
      rcases y with y | y
      · exact Or.inr (by omega)
      · exact Or.inl y.1
  · constructor
    · intro y; exact Or.inr ⟨y, by omega⟩
    · intro y
      rcases y with y | y
      · exact absurd y.1 z2
      · exact y.1
end
/-! joinInto -/
def lc_jh (t : Nat) (h f : Nat → Int32) (k : Nat) : Nat → Int32 := fun j => if 4 * t ≤ j ∧ j < 4 * t + k then f j ||| h (j - 4 * t) else f j
theorem lc_jh_0 (t : Nat) (h f : Nat → Int32) : lc_jh t h f 0 = f := by
  funext j
  unfold lc_jh
  rw [if_neg (by omega)]
theorem lc_jh_in {t : Nat} {h f : Nat → Int32} {k r : Nat} (hr : r < k) : lc_jh t h f k (4 * t + r) = f (4 * t + r) ||| h r := by
  unfold lc_jh
  rw [if_pos (by omega), show 4 * t + r - 4 * t = r by omega]
theorem lc_jh_out {t : Nat} {h f : Nat → Int32} {k j : Nat} (hr : j < 4 * t ∨ 4 * t + k ≤ j) : lc_jh t h f k j = f j := by
  unfold lc_jh
  rw [if_neg (by omega)]
theorem lc_jh_s (t : Nat) (h f : Nat → Int32) (k : Nat) : upd (lc_jh t h f k) (4 * t + k) (f (4 * t + k) ||| h k) = lc_jh t h f (k + 1) := by
  funext j
  by_cases e : j = 4 * t + k
  · rw [e, pk_us, lc_jh_in (by omega)]
  · rw [pk_un e]
    by_cases z : 4 * t ≤ j ∧ j < 4 * t + k
    · obtain ⟨r, hr⟩ : ∃ r, j = 4 * t + r := ⟨j - 4 * t, by omega⟩
      rw [hr, lc_jh_in (by omega), lc_jh_in (by omega)]
    · rw [lc_jh_out (by omega), lc_jh_out (by omega)]
section
variable {n : Nat} {K A B : Nat → Nat} {c st g qd : Int32} {a1 a2 a3 a4 a5 a6 a7 a8 a9 a10 a11 : Nat → Int32}
theorem lc_w_join {post : St1 → Prop} {t : Nat} {e : Int32} (ht : t < 24)
    (H : ∀ g', (g' = 0 ∨ g' = 1) → (g' = 0 → g = 0 ∧ a4 t ≠ 0 ∧ a6 t ||| e = a6 t ∧ ∀ r, r < 4 → a5 (4 * t + r) ||| a9 r = a5 (4 * t + r)) → (g' = 1 → g ≠ 0 ∨ a4 t = 0 ∨ a6 t ||| e ≠ a6 t ∨ ∃ r, r < 4 ∧ a5 (4 * t + r) ||| a9 r ≠ a5 (4 * t + r)) → post (c, st, g', qd, a1, a2, a3, upd a4 t 1, lc_jh t a9 a5 4, upd a6 t (a6 t ||| e), a7, a8, a9, a10, a11)) :
    wpX_joinInto post (c, st, g, qd, a1, a2, a3, a4, a5, a6, a7, a8, a9, a10, a11) (nI t) e := by
  have hc : (nI t).toNatClampNeg = t := nI_clamp (by omega)
  refine pk_loop (fun m i s => wX_joinInto_2 post (nI t) e c st qd m (nI i) s.1 a1 a2 a3 a4 s.2 a6 a7 a8 a9 a10 a11)
    (fun i s => s.2 = lc_jh t a9 a5 i ∧ (s.1 = 0 → g = 0 ∧ ∀ r, r < i → a5 (4 * t + r) ||| a9 r = a5 (4 * t + r)) ∧ (s.1 ≠ 0 → g ≠ 0 ∨ ∃ r, r < i ∧ a5 (4 * t + r) ||| a9 r ≠ a5 (4 * t + r))) 4 0 (g, a5) (by omega)
    ⟨(lc_jh_0 t a9 a5).symm, fun z => ⟨z, fun r hr => absurd hr (by omega)⟩, fun z => Or.inl z⟩ ?_ ?_
  · rintro m ⟨g1, s⟩ ⟨hs, h0, h1⟩
    dsimp only at hs h0 h1 ⊢
    subst hs
    have b116 : ∀ z, (z = 0 ∨ z = 1) → (z = 0 → g1 = 0 ∧ a4 t ≠ 0 ∧ a6 t ||| e = a6 t) → (z = 1 → g1 ≠ 0 ∨ a4 t = 0 ∨ a6 t ||| e ≠ a6 t) → wX_joinInto_116 post (nI t) (a6 t ||| e) z c st g1 qd a1 a2 a3 a4 (lc_jh t a9 a5 4) a6 a7 a8 a9 a10 a11 := fun z hz z0 z1 => by
      unfold wX_joinInto_116
      refine ⟨by rcases hz with rfl | rfl <;> rfl, by rcases hz with rfl | rfl <;> rfl, pk_in t 24 ht, nm_r (by rw [hc]) ⟨pk_in t 24 ht, nm_r (by rw [hc]) (H z hz (fun y => ?_) (fun y => ?_))⟩⟩
      · obtain ⟨y1, y2, y3⟩ := z0 y
        exact ⟨(h0 y1).1, y2, y3, (h0 y1).2⟩
      · rcases z1 y with y1 | y1 | y1
        · rcases h1 y1 with x | x
          · exact Or.inl x
          · exact Or.inr (Or.inr (Or.inr x))
        · exact Or.inr (Or.inl y1)
        · exact Or.inr (Or.inr (Or.inl y1))
    refine pk_le 4 4 (fun _ => ⟨pk_in t 24 ht, nm_r (by rw [hc]) ?_⟩) (fun z => absurd z (by omega))
    rw [hc]
    exact br_c (fun zg => ⟨pk_in t 24 ht, br_c (fun z6 => ⟨pk_in t 24 ht, br_c (fun z4 => b116 1 (Or.inr rfl) (fun y => absurd y (by decide)) (fun _ => Or.inr (Or.inl z4))) (fun z4 => b116 0 (Or.inl rfl) (fun _ => ⟨zg, z4, z6⟩) (fun y => absurd y (by decide)))⟩)
        (fun z6 => b116 1 (Or.inr rfl) (fun y => absurd y (by decide)) (fun _ => Or.inr (Or.inr z6)))⟩)
      (fun zg => b116 1 (Or.inr rfl) (fun y => absurd y (by decide)) (fun _ => Or.inl zg))
  · rintro m i ⟨g1, s⟩ hi ⟨hs, h0, h1⟩ hw
    dsimp only at hs h0 h1 hw ⊢
    subst hs
    have hci : (nI i).toNatClampNeg = i := nI_clamp (by omega)
    have hcx : ((4 : Int32) * nI t + nI i).toNatClampNeg = 4 * t + i := by rw [lc_ix, nI_clamp (by omega)]
    have hself : lc_jh t a9 a5 i (4 * t + i) = a5 (4 * t + i) := lc_jh_out (by omega)
    have b54 : ∀ z, (z = 0 ∨ z = 1) → (z = 0 → g1 = 0 ∧ a5 (4 * t + i) ||| a9 i = a5 (4 * t + i)) → (z = 1 → g1 ≠ 0 ∨ a5 (4 * t + i) ||| a9 i ≠ a5 (4 * t + i)) → wX_joinInto_54 post (wX_joinInto_2 post (nI t) e c st qd m) (nI t) e (nI i) (a5 (4 * t + i) ||| a9 i) z c st g1 qd a1 a2 a3 a4 (lc_jh t a9 a5 i) a6 a7 a8 a9 a10 a11 := fun z hz z0 z1 => by
      unfold wX_joinInto_54
      refine ⟨by rcases hz with rfl | rfl <;> rfl, by rcases hz with rfl | rfl <;> rfl, pk_in (4 * t + i) 96 (by omega) (lc_ix t i), nm_r (by rw [hcx, lc_jh_s]) (nm_r (nI_1 i) (hw (z, lc_jh t a9 a5 (i + 1)) ⟨rfl, fun y => ?_, fun y => ?_⟩))⟩
      · obtain ⟨y1, y2⟩ := z0 y
        refine ⟨(h0 y1).1, fun r hr => ?_⟩
        by_cases er : r = i
        · rw [er]; exact y2
        · exact (h0 y1).2 r (by omega)
      · rcases hz with rfl | rfl
        · exact absurd rfl y
        · rcases z1 rfl with y1 | y1
          · rcases h1 y1 with x | ⟨r, hr, x⟩
            · exact Or.inl x
            · exact Or.inr ⟨r, by omega, x⟩
          · exact Or.inr ⟨i, by omega, y1⟩
    refine pk_le 4 i (fun z => absurd z (by omega)) (fun _ => ⟨pk_in (4 * t + i) 96 (by omega) (lc_ix t i), pk_in i 4 hi, nm_r (by rw [hcx, hself, hci]) ?_⟩)
    rw [hcx, hself]
    exact br_c (fun zg => ⟨pk_in (4 * t + i) 96 (by omega) (lc_ix t i), br_c (fun z5 => b54 0 (Or.inl rfl) (fun _ => ⟨zg, z5⟩) (fun y => absurd y (by decide)))
        (fun z5 => b54 1 (Or.inr rfl) (fun y => absurd y (by decide)) (fun _ => Or.inr z5))⟩)
      (fun zg => b54 1 (Or.inr rfl) (fun y => absurd y (by decide)) (fun _ => Or.inl zg))
end
end
section
/-! the forward flow: what a round keeps -/
def lc_Sn (n : Nat) (K A B : Nat → Nat) (a4 a5 a6 : Nat → Int32) : Prop := ∀ p, p < n → (a4 p = 0 ∨ a4 p = 1) ∧ (a4 p ≠ 0 → lc_R n K A p) ∧ (∀ r, r < 4 → ∀ b, b < 32 → lc_bt (a5 (4 * p + r)) b = true → lc_H n K A B b p r) ∧ (∀ o, o < 32 → lc_bt (a6 p) o = true → lc_M n K A p o)
def lc_Ss (n : Nat) (a4 a5 a6 : Nat → Int32) : Prop := 0 < n → a4 0 ≠ 0 ∧ (∀ r, r < 4 → lc_bt (a5 (4 * 0 + r)) 24 = true) ∧ ∀ o, o < 4 → lc_bt (a6 0) o = true
noncomputable def lc_wt (a4 a5 a6 : Nat → Int32) (p : Nat) : Nat := lc_cn (fun _ => a4 p ≠ 0) 1 + lc_cn (fun o => lc_bt (a6 p) o = true) 4 + lc_sm (fun r => lc_cn (fun b => lc_bt (a5 (4 * p + r)) b = true) 25) 4
noncomputable def lc_mu (n : Nat) (a4 a5 a6 : Nat → Int32) : Nat := lc_sm (lc_wt a4 a5 a6) n
def lc_Q (n : Nat) (K A B : Nat → Nat) (b4 b5 b6 : Nat → Int32) (g : Int32) (a4 a5 a6 : Nat → Int32) : Prop := lc_Sn n K A B a4 a5 a6 ∧ lc_Ss n a4 a5 a6 ∧ ((g = 0 ∧ a4 = b4 ∧ a5 = b5 ∧ a6 = b6) ∨ (g = 1 ∧ lc_mu n b4 b5 b6 < lc_mu n a4 a5 a6))
/-- closed along one edge's number i of p -/
def lc_cl (n : Nat) (K A B : Nat → Nat) (b4 b5 b6 : Nat → Int32) (p i : Nat) : Prop := ∀ q, lc_E n K A p i q → b4 q ≠ 0 ∧ (∀ r, r < 4 → ∀ b, b < 32 → (lc_gn K A B b p r ∨ ∃ r0, r0 < 4 ∧ lc_hd K A B p r0 r ∧ lc_bt (b5 (4 * p + r0)) b = true) → lc_bt (b5 (4 * q + r)) b = true) ∧ (∀ o, o < 32 → ((K p = 2 ∧ o = A p) ∨ (lc_bt (b6 p) o = true ∧ ¬ (K p = 0 ∧ A p = o))) → lc_bt (b6 q) o = true)
theorem lc_wt_b (a4 a5 a6 : Nat → Int32) (p : Nat) : lc_wt a4 a5 a6 p ≤ 105 := by
  unfold lc_wt
  have h1 := lc_cn_b (fun _ => a4 p ≠ 0) 1
  have h2 := lc_cn_b (fun o => lc_bt (a6 p) o = true) 4
  have h3 := lc_sm_b (f := fun r => lc_cn (fun b => lc_bt (a5 (4 * p + r)) b = true) 25) (n := 4) (c := 25) (fun r _ => lc_cn_b _ 25)
  omega
theorem lc_mu_b {n : Nat} (hn : n ≤ 24) (a4 a5 a6 : Nat → Int32) : lc_mu n a4 a5 a6 ≤ 2520 := by
  have h := lc_sm_b (f := lc_wt a4 a5 a6) (n := n) (c := 105) (fun p _ => lc_wt_b a4 a5 a6 p)
  unfold lc_mu
  omega
section
variable {n : Nat} {K A B : Nat → Nat} {b4 b5 b6 a4 a5 a6 h : Nat → Int32} {g e : Int32} {t : Nat}
theorem lc_wt_o {p : Nat} (hp : p ≠ t) : lc_wt (upd a4 t 1) (lc_jh t h a5 4) (upd a6 t (a6 t ||| e)) p = lc_wt a4 a5 a6 p := by
  unfold lc_wt
  rw [pk_un hp, pk_un hp]
  have x : ∀ r, r < 4 → lc_jh t h a5 4 (4 * p + r) = a5 (4 * p + r) := fun r hr => lc_jh_out (by omega)
  unfold lc_sm lc_sm lc_sm lc_sm lc_sm
  rw [x 0 (by omega), x 1 (by omega), x 2 (by omega), x 3 (by omega)]
theorem lc_wt_p1 : lc_cn (fun _ => a4 t ≠ 0) 1 ≤ lc_cn (fun _ => upd a4 t 1 t ≠ 0) 1 := lc_cn_le (fun _ _ _ => by rw [pk_us]; decide)
theorem lc_wt_p2 : lc_cn (fun o => lc_bt (a6 t) o = true) 4 ≤ lc_cn (fun o => lc_bt (upd a6 t (a6 t ||| e) t) o = true) 4 := lc_cn_le (fun o _ z => by rw [pk_us]; exact lc_orT.mpr (Or.inl z))
theorem lc_wt_p3 (r : Nat) (hr : r < 4) : lc_cn (fun b => lc_bt (a5 (4 * t + r)) b = true) 25 ≤ lc_cn (fun b => lc_bt (lc_jh t h a5 4 (4 * t + r)) b = true) 25 := lc_cn_le (fun b _ z => by rw [lc_jh_in hr]; exact lc_orT.mpr (Or.inl z))
theorem lc_wt_le : ∀ p, lc_wt a4 a5 a6 p ≤ lc_wt (upd a4 t 1) (lc_jh t h a5 4) (upd a6 t (a6 t ||| e)) p := by
  intro p
  by_cases hp : p = t
  · subst hp
    exact Nat.add_le_add (Nat.add_le_add lc_wt_p1 lc_wt_p2) (lc_sm_le (fun r hr => lc_wt_p3 r hr))
  · rw [lc_wt_o hp]; exact Nat.le_refl _
theorem lc_Sn_j (H : lc_Sn n K A B a4 a5 a6) (hR : lc_R n K A t) (hh : ∀ r, r < 4 → ∀ b, b < 32 → lc_bt (h r) b = true → lc_H n K A B b t r) (he : ∀ o, o < 32 → lc_bt e o = true → lc_M n K A t o) :
    lc_Sn n K A B (upd a4 t 1) (lc_jh t h a5 4) (upd a6 t (a6 t ||| e)) := by
  intro p hp
  obtain ⟨h1, h2, h3, h4⟩ := H p hp
  by_cases ep : p = t
  · subst ep
    refine ⟨Or.inr pk_us, fun _ => hR, fun r hr b hb z => ?_, fun o ho z => ?_⟩
    · rw [lc_jh_in hr] at z
      rcases lc_orT.mp z with z | z
      · exact h3 r hr b hb z
      · exact hh r hr b hb z
    · rw [pk_us] at z
      rcases lc_orT.mp z with z | z
      · exact h4 o ho z
      · exact he o ho z
  · rw [pk_un ep, pk_un ep]
    refine ⟨h1, h2, fun r hr b hb z => ?_, h4⟩
    rw [lc_jh_out (by omega)] at z
    exact h3 r hr b hb z
theorem lc_Ss_j (H : lc_Ss n a4 a5 a6) : lc_Ss n (upd a4 t 1) (lc_jh t h a5 4) (upd a6 t (a6 t ||| e)) := by
  intro h0
  obtain ⟨h1, h2, h3⟩ := H h0
  by_cases ep : 0 = t
  · subst ep
    refine ⟨by rw [pk_us]; decide, fun r hr => ?_, fun o ho => ?_⟩
    · rw [lc_jh_in hr]; exact lc_orT.mpr (Or.inl (h2 r hr))
    · rw [pk_us]; exact lc_orT.mpr (Or.inl (h3 o ho))
  · rw [pk_un ep, pk_un ep]
    refine ⟨h1, fun r hr => ?_, h3⟩
    rw [lc_jh_out (by omega)]
    exact h2 r hr
theorem lc_Q_j {g' : Int32} (w : lc_wf n K A B) (H : lc_Q n K A B b4 b5 b6 g a4 a5 a6) (hR : lc_R n K A t) (hh : ∀ r, r < 4 → ∀ b, b < 32 → lc_bt (h r) b = true → lc_H n K A B b t r) (he : ∀ o, o < 32 → lc_bt e o = true → lc_M n K A t o)
    (hg : g' = 0 ∨ g' = 1) (g0 : g' = 0 → g = 0 ∧ a4 t ≠ 0 ∧ a6 t ||| e = a6 t ∧ ∀ r, r < 4 → a5 (4 * t + r) ||| h r = a5 (4 * t + r)) (g1 : g' = 1 → g ≠ 0 ∨ a4 t = 0 ∨ a6 t ||| e ≠ a6 t ∨ ∃ r, r < 4 ∧ a5 (4 * t + r) ||| h r ≠ a5 (4 * t + r)) :
    lc_Q n K A B b4 b5 b6 g' (upd a4 t 1) (lc_jh t h a5 4) (upd a6 t (a6 t ||| e)) := by
  have ht : t < n := lc_R_lt hR
  obtain ⟨q1, q2, q3⟩ := H
  refine ⟨lc_Sn_j q1 hR hh he, lc_Ss_j q2, ?_⟩
  rcases hg with hg | hg
  · left
    obtain ⟨y1, y2, y3, y4⟩ := g0 hg
    rcases q3 with ⟨_, z1, z2, z3⟩ | ⟨z, _⟩
    · have z4 : a4 t = 1 := (q1 t ht).1.resolve_left y2
      refine ⟨hg, ?_, ?_, ?_⟩
      · rw [← z1]
        funext j
        by_cases ej : j = t
        · rw [ej, pk_us, z4]
        · rw [pk_un ej]
      · rw [← z2]
        funext j
        by_cases ej : 4 * t ≤ j ∧ j < 4 * t + 4
        · obtain ⟨r, hr⟩ : ∃ r, j = 4 * t + r := ⟨j - 4 * t, by omega⟩
          rw [hr, lc_jh_in (by omega), y4 r (by omega)]
        · rw [lc_jh_out (by omega)]
      · rw [← z3]
        funext j
        by_cases ej : j = t
        · rw [ej, pk_us, y3]
        · rw [pk_un ej]
    · rw [y1] at z; exact absurd z (by decide)
  · right
    refine ⟨hg, ?_⟩
    have le : lc_mu n a4 a5 a6 ≤ lc_mu n (upd a4 t 1) (lc_jh t h a5 4) (upd a6 t (a6 t ||| e)) := lc_sm_le (fun p _ => lc_wt_le p)
    rcases q3 with ⟨z0, z1, z2, z3⟩ | ⟨_, z⟩
    · rw [← z1, ← z2, ← z3]
      refine lc_sm_lt (fun p _ => lc_wt_le p) ht ?_
      have p1 : lc_cn (fun _ => a4 t ≠ 0) 1 ≤ lc_cn (fun _ => upd a4 t 1 t ≠ 0) 1 := lc_wt_p1
      have p2 : lc_cn (fun o => lc_bt (a6 t) o = true) 4 ≤ lc_cn (fun o => lc_bt (upd a6 t (a6 t ||| e) t) o = true) 4 := lc_wt_p2
      have p3 : lc_sm (fun r => lc_cn (fun b => lc_bt (a5 (4 * t + r)) b = true) 25) 4 ≤ lc_sm (fun r => lc_cn (fun b => lc_bt (lc_jh t h a5 4 (4 * t + r)) b = true) 25) 4 := lc_sm_le (fun r hr => lc_wt_p3 r hr)
      unfold lc_wt
      rcases g1 hg with y | y | y | ⟨r, hr, y⟩
      · exact absurd z0 y
      · have x : lc_cn (fun _ => a4 t ≠ 0) 1 < lc_cn (fun _ => upd a4 t 1 t ≠ 0) 1 := lc_cn_lt (fun _ _ _ => by rw [pk_us]; decide) ⟨0, by omega, by rw [pk_us]; decide, fun x => x y⟩
        omega
      · have x : lc_cn (fun o => lc_bt (a6 t) o = true) 4 < lc_cn (fun o => lc_bt (upd a6 t (a6 t ||| e) t) o = true) 4 := by
          refine lc_cn_lt (fun o _ z => by rw [pk_us]; exact lc_orT.mpr (Or.inl z)) ?_
          rcases Classical.em (∃ i, i < 4 ∧ lc_bt (upd a6 t (a6 t ||| e) t) i = true ∧ ¬ lc_bt (a6 t) i = true) with x | x
          · exact x
          · refine absurd (lc_oreq.mpr (fun i hi z => ?_)) y
            rcases Classical.em (lc_bt (a6 t) i = true) with v | v
            · exact v
            · exact absurd ⟨i, lc_M_4 w (he i hi z), by rw [pk_us]; exact lc_orT.mpr (Or.inr z), v⟩ x
        omega
      · have x : lc_sm (fun r => lc_cn (fun b => lc_bt (a5 (4 * t + r)) b = true) 25) 4 < lc_sm (fun r => lc_cn (fun b => lc_bt (lc_jh t h a5 4 (4 * t + r)) b = true) 25) 4 := by
          refine lc_sm_lt (fun r hr => lc_wt_p3 r hr) hr ?_
          refine lc_cn_lt (fun b _ z => by rw [lc_jh_in hr]; exact lc_orT.mpr (Or.inl z)) ?_
          rcases Classical.em (∃ i, i < 25 ∧ lc_bt (lc_jh t h a5 4 (4 * t + r)) i = true ∧ ¬ lc_bt (a5 (4 * t + r)) i = true) with x | x
          · exact x
          · refine absurd (lc_oreq.mpr (fun i hi z => ?_)) y
            rcases Classical.em (lc_bt (a5 (4 * t + r)) i = true) with v | v
            · exact v
            · have := lc_H_24 (hh r hr i hi z)
              exact absurd ⟨i, by omega, by rw [lc_jh_in hr]; exact lc_orT.mpr (Or.inr z), v⟩ x
        omega
    · exact Nat.lt_of_lt_of_le z le
end
/-! the walks of the forward flow -/
section
variable {n : Nat} {K A B : Nat → Nat} {st g qd : Int32} {b4 b5 b6 a1 a2 a3 a4 a5 a6 a7 a8 a9 a10 a11 : Nat → Int32}
theorem lc_w_spread {post : St1 → Prop} {p : Nat} (hP : lc_P n K A B a1 a2 a3) (hp : p < n) (hQ : lc_Q n K A B b4 b5 b6 g a4 a5 a6) (hr : a4 p ≠ 0)
    (H : ∀ g' a4' a5' a6' a9', lc_Q n K A B b4 b5 b6 g' a4' a5' a6' → (g' = 0 → g = 0 ∧ ∀ i, i < 2 → lc_cl n K A B b4 b5 b6 p i) → post (nI n, st, g', qd, a1, a2, a3, a4', a5', a6', a7, a8, a9', a10, a11)) :
    wpX_spreadFrom post (nI n, st, g, qd, a1, a2, a3, a4, a5, a6, a7, a8, a9, a10, a11) (nI p) := by
  have hR : lc_R n K A p := (hQ.1 p hp).2.1 hr
  have hn := hP.1.1
  unfold wpX_spreadFrom
  refine lc_w_pass hP hp (fun h9 s9 => ?_)
  refine lc_w_empty hP hp (fun e se => ?_)
  have hh : ∀ q i, lc_E n K A p i q → ∀ r, r < 4 → ∀ b, b < 32 → lc_bt (h9 r) b = true → lc_H n K A B b q r := by
    intro q i he r hr4 b hb z
    rcases (s9 r hr4 b hb).mp z with z | ⟨r0, h0, z1, z2⟩
    · exact lc_H_g hR z he
    · exact lc_H_s ((hQ.1 p hp).2.2.1 r0 h0 b hb z2) he z1
  have hM : ∀ q i, lc_E n K A p i q → ∀ o, o < 32 → lc_bt e o = true → lc_M n K A q o := by
    intro q i he o ho z
    rcases (se o ho).mp z with ⟨z1, z2⟩ | ⟨z1, z2⟩
    · rw [z2]; exact lc_M_g hR he z1
    · exact lc_M_s ((hQ.1 p hp).2.2.2 o ho z1) he z2
  refine pk_loop (fun m i s => wX_spreadFrom_13 post (nI p) e m (nI i) (nI n) st s.1 qd a1 a2 a3 s.2.1 s.2.2.1 s.2.2.2 a7 a8 h9 a10 a11)
    (fun i s => lc_Q n K A B b4 b5 b6 s.1 s.2.1 s.2.2.1 s.2.2.2 ∧ (s.1 = 0 → g = 0 ∧ ∀ j, j < i → lc_cl n K A B b4 b5 b6 p j)) 2 0 (g, a4, a5, a6) (by omega) ⟨hQ, fun z => ⟨z, fun j hj => absurd hj (by omega)⟩⟩ ?_ ?_
  · rintro m ⟨g1, s4, s5, s6⟩ ⟨h1, h2⟩
    dsimp only at h1 h2 ⊢
    exact pk_le 2 2 (fun _ => H g1 s4 s5 s6 h9 h1 h2) (fun z => absurd z (by omega))
  · rintro m i ⟨g1, s4, s5, s6⟩ hi ⟨h1, h2⟩ hw
    dsimp only at h1 h2 hw ⊢
    refine pk_le 2 i (fun z => absurd z (by omega)) (fun _ => lc_w_behind hP hp hi (fun hno => ?_) (fun q hq => ?_))
    · refine br_t rfl (nm_r (nI_1 i) (hw (g1, s4, s5, s6) ⟨h1, fun z => ⟨(h2 z).1, fun j hj => ?_⟩⟩))
      by_cases ej : j = i
      · rw [ej]; exact fun q hq => absurd hq (hno q)
      · exact (h2 z).2 j (by omega)
    · have hq24 : q < n := hq.2.1
      refine br_f (fun z => ?_) (lc_w_join (by omega) (fun g' hg' x0 x1 => nm_r (nI_1 i) (hw (g', _, _, _) ⟨lc_Q_j hP.1 h1 (lc_R_s hR hq) (hh q i hq) (hM q i hq) hg' x0 x1, fun z => ?_⟩)))
      · have y : nI q < 0 := by rw [z]; decide
        exact absurd y (nI_pos (by omega))
      · obtain ⟨y1, y2, y3, y4⟩ := x0 z
        obtain ⟨v1, v2⟩ := h2 y1
        refine ⟨v1, fun j hj => ?_⟩
        by_cases ej : j = i
        · subst ej
          intro q' hq'
          have := lc_E_f hq hq'
          subst this
          have a : a4 = b4 ∧ a5 = b5 ∧ a6 = b6 := by
            rcases hQ.2.2 with x | x
            · exact x.2
            · rw [v1] at x; exact absurd x.1 (by decide)
          have s : s4 = b4 ∧ s5 = b5 ∧ s6 = b6 := by
            rcases h1.2.2 with x | x
            · exact x.2
            · rw [y1] at x; exact absurd x.1 (by decide)
          obtain ⟨rfl, rfl, rfl⟩ := a
          obtain ⟨rfl, rfl, rfl⟩ := s
          refine ⟨y2, fun r hr4 b hb x => ?_, fun o ho x => ?_⟩
          · exact lc_oreq.mp (y4 r hr4) b hb ((s9 r hr4 b hb).mpr x)
          · exact lc_oreq.mp y3 o ho ((se o ho).mpr x)
        · exact v2 j (by omega)
theorem lc_w_117 {post : St1 → Prop} {J : Int32 → Int32 → Int32 → Int32 → Int32 → (Nat → Int32) → (Nat → Int32) → (Nat → Int32) → (Nat → Int32) → (Nat → Int32) → (Nat → Int32) → (Nat → Int32) → (Nat → Int32) → (Nat → Int32) → (Nat → Int32) → (Nat → Int32) → Prop} {x1 : Int32}
    (hP : lc_P n K A B a1 a2 a3) (hQ : lc_Q n K A B b4 b5 b6 0 b4 b5 b6)
    (H : ∀ g' a4' a5' a6' a9', lc_Q n K A B b4 b5 b6 g' a4' a5' a6' → (g' = 0 → ∀ p, p < n → b4 p ≠ 0 → ∀ i, i < 2 → lc_cl n K A B b4 b5 b6 p i) → J (x1 + 1) (nI n) st g' qd a1 a2 a3 a4' a5' a6' a7 a8 a9' a10 a11) :
    ∃ fu, wX_findHeld_117 post J x1 fu 0 (nI n) st 0 qd a1 a2 a3 b4 b5 b6 a7 a8 a9 a10 a11 := by
  have hn := hP.1.1
  refine pk_loop (fun m p s => wX_findHeld_117 post J x1 m (nI p) (nI n) st s.1 qd a1 a2 a3 s.2.1 s.2.2.1 s.2.2.2.1 a7 a8 s.2.2.2.2 a10 a11)
    (fun p s => lc_Q n K A B b4 b5 b6 s.1 s.2.1 s.2.2.1 s.2.2.2.1 ∧ (s.1 = 0 → ∀ j, j < p → b4 j ≠ 0 → ∀ i, i < 2 → lc_cl n K A B b4 b5 b6 j i)) n 0 (0, b4, b5, b6, a9) (by omega) ⟨hQ, fun z j hj => absurd hj (by omega)⟩ ?_ ?_
  · rintro m ⟨g1, s4, s5, s6, s9⟩ ⟨h1, h2⟩
    dsimp only at h1 h2 ⊢
    exact pk_le n n (fun _ => nm_e (H g1 s4 s5 s6 s9 h1 h2)) (fun z => absurd z (by omega))
  · rintro m p ⟨g1, s4, s5, s6, s9⟩ hp ⟨h1, h2⟩ hw
    dsimp only at h1 h2 hw ⊢
    refine pk_le n p (fun z => absurd z (by omega)) (fun _ => ⟨pk_in p 24 (by omega), ?_⟩)
    rw [nI_clamp (show p < 2 ^ 31 by omega)]
    refine br_c (fun z => nm_r (nI_1 p) (hw (g1, s4, s5, s6, s9) ⟨h1, fun y j hj hb => ?_⟩)) (fun z => lc_w_spread hP hp h1 z (fun g' s4' s5' s6' s9' k1 k2 => nm_r (nI_1 p) (hw (g', s4', s5', s6', s9') ⟨k1, fun y j hj hb => ?_⟩)))
    · by_cases ej : j = p
      · have a : s4 = b4 := by
          rcases h1.2.2 with x | x
          · exact x.2.1
          · dsimp only at y; rw [y] at x; exact absurd x.1 (by decide)
        rw [a, ← ej] at z
        exact absurd z hb
      · exact h2 y j (by omega) hb
    · by_cases ej : j = p
      · rw [ej]; exact (k2 y).2
      · exact h2 (k2 y).1 j (by omega) hb
theorem lc_w_96 {post : St1 → Prop} (hP : lc_P n K A B a1 a2 a3) (hS : lc_Sn n K A B a4 a5 a6) (hT : lc_Ss n a4 a5 a6)
    (H : ∀ a4' a5' a6' a9', lc_Sn n K A B a4' a5' a6' → lc_Ss n a4' a5' a6' → (∀ p, p < n → a4' p ≠ 0 → ∀ i, i < 2 → lc_cl n K A B a4' a5' a6' p i) → post (nI n, st, 0, qd, a1, a2, a3, a4', a5', a6', a7, a8, a9', a10, a11)) :
    ∃ fu, wX_findHeld_96 post fu 0 (nI n) st 1 qd a1 a2 a3 a4 a5 a6 a7 a8 a9 a10 a11 := by
  have hn := hP.1.1
  refine loop_m (fun m (s : Nat × Int32 × (Nat → Int32) × (Nat → Int32) × (Nat → Int32) × (Nat → Int32)) => wX_findHeld_96 post m (nI s.1) (nI n) st s.2.1 qd a1 a2 a3 s.2.2.1 s.2.2.2.1 s.2.2.2.2.1 a7 a8 s.2.2.2.2.2 a10 a11)
    (fun s => s.1 < 2601 ∧ lc_Sn n K A B s.2.2.1 s.2.2.2.1 s.2.2.2.2.1 ∧ lc_Ss n s.2.2.1 s.2.2.2.1 s.2.2.2.2.1 ∧ ((s.2.1 = 0 ∧ ∀ p, p < n → s.2.2.1 p ≠ 0 → ∀ i, i < 2 → lc_cl n K A B s.2.2.1 s.2.2.2.1 s.2.2.2.2.1 p i) ∨ (s.2.1 = 1 ∧ s.1 ≤ lc_mu n s.2.2.1 s.2.2.2.1 s.2.2.2.2.1)))
    (fun s => 2601 - s.1) ?_ (0, 1, a4, a5, a6, a9) ⟨by show 0 < 2601; decide, hS, hT, Or.inr ⟨rfl, Nat.zero_le _⟩⟩
  rintro m ⟨k, g1, s4, s5, s6, s9⟩ ⟨h0, h1, h2, h3⟩ hw
  dsimp only at h0 h1 h2 h3 hw ⊢
  rcases h3 with ⟨z, h3⟩ | ⟨z, h3⟩
  · subst z
    exact br_c (fun _ => H s4 s5 s6 s9 h1 h2 h3) (fun _ => br_t rfl (H s4 s5 s6 s9 h1 h2 h3))
  · have hb := lc_mu_b hn s4 s5 s6
    refine pk_le 2600 k (fun y => absurd y (by omega)) (fun y => br_f (by rw [z]; decide) (lc_w_117 hP ⟨h1, h2, Or.inl ⟨rfl, rfl, rfl, rfl⟩⟩ (fun g' s4' s5' s6' s9' k1 k2 => ?_)))
    rw [nI_1]
    refine hw (k + 1, g', s4', s5', s6', s9') ⟨by dsimp only; omega, k1.1, k1.2.1, ?_⟩ (by dsimp only; omega)
    dsimp only
    rcases k1.2.2 with ⟨x1, x2, x3, x4⟩ | ⟨x1, x2⟩
    · left
      subst x2 x3 x4
      exact ⟨x1, k2 x1⟩
    · right
      exact ⟨x1, by omega⟩
end
/-! the arrays of the forward flow, by their meaning -/
def lc_S1 (n : Nat) (K A B : Nat → Nat) (a4 a5 a6 : Nat → Int32) : Prop := ∀ p, p < n → (a4 p = 0 ∨ a4 p = 1) ∧ (a4 p ≠ 0 ↔ lc_R n K A p) ∧ (∀ r, r < 4 → ∀ b, b < 32 → (lc_bt (a5 (4 * p + r)) b = true ↔ lc_H n K A B b p r)) ∧ (∀ o, o < 32 → (lc_bt (a6 p) o = true ↔ lc_M n K A p o))
section
variable {n : Nat} {K A B : Nat → Nat} {st g qd : Int32} {a1 a2 a3 a4 a5 a6 a7 a8 a9 a10 a11 : Nat → Int32}
theorem lc_fix (w : lc_wf n K A B) (hS : lc_Sn n K A B a4 a5 a6) (hT : lc_Ss n a4 a5 a6) (hC : ∀ p, p < n → a4 p ≠ 0 → ∀ i, i < 2 → lc_cl n K A B a4 a5 a6 p i) : lc_S1 n K A B a4 a5 a6 := by
  have R : ∀ p, lc_R n K A p → a4 p ≠ 0 := fun p h => h (fun p => a4 p ≠ 0) (fun h0 => (hT h0).1) (fun p i q z e => (hC p e.1 z i (lc_E_i e) q e).1)
  intro p hp
  obtain ⟨h1, h2, h3, h4⟩ := hS p hp
  refine ⟨h1, ⟨h2, R p⟩, fun r hr b hb => ⟨h3 r hr b hb, fun z => ?_⟩, fun o ho => ⟨h4 o ho, fun z => ?_⟩⟩
  · have t := z (fun p r => lc_R n K A p ∧ r < 4 ∧ lc_bt (a5 (4 * p + r)) b = true) (fun e h0 r hr => ⟨lc_R_0 h0, hr, by rw [e]; exact (hT h0).2.1 r hr⟩)
      (fun p i q r hR hg e => ⟨lc_R_s hR e, lc_gn_4 w e.1 hg, (hC p e.1 (R p hR) i (lc_E_i e) q e).2.1 r (lc_gn_4 w e.1 hg) b hb (Or.inl hg)⟩)
      (fun p i q r r' y e d => ⟨lc_R_s y.1 e, lc_hd_4 w e.1 y.2.1 d, (hC p e.1 (R p y.1) i (lc_E_i e) q e).2.1 r' (lc_hd_4 w e.1 y.2.1 d) b hb (Or.inr ⟨r, y.2.1, d, y.2.2⟩)⟩)
    exact t.2.2
  · have t := z (fun p o => lc_R n K A p ∧ o < 32 ∧ lc_bt (a6 p) o = true) (fun h0 o ho => ⟨lc_R_0 h0, by omega, (hT h0).2.2 o ho⟩)
      (fun p i q hR e k => by
        have hA := (w.2 p e.1).2.2.2 (by omega)
        exact ⟨lc_R_s hR e, by omega, (hC p e.1 (R p hR) i (lc_E_i e) q e).2.2 (A p) (by omega) (Or.inl ⟨k, rfl⟩)⟩)
      (fun p i q o y e k => ⟨lc_R_s y.1 e, y.2.1, (hC p e.1 (R p y.1) i (lc_E_i e) q e).2.2 o y.2.1 (Or.inr ⟨y.2.2, k⟩)⟩)
    exact t.2.2
theorem lc_w_63 {post : St1 → Prop} (hP : lc_P n K A B a1 a2 a3) (h0 : 0 < n) (hz : ∀ p, p < n → a4 p = 0 ∧ a6 p = 0 ∧ ∀ r, r < 4 → a5 (4 * p + r) = 0)
    (H : ∀ a4' a5' a6' a9', lc_S1 n K A B a4' a5' a6' → post (nI n, st, 0, qd, a1, a2, a3, a4', a5', a6', a7, a8, a9', a10, a11)) :
    ∃ fu, wX_findHeld_63 post (nI n) st g qd fu 0 a1 a2 a3 a4 a5 a6 a7 a8 a9 a10 a11 := by
  have hn := hP.1.1
  refine pk_loop (fun m i s => wX_findHeld_63 post (nI n) st g qd m (nI i) a1 a2 a3 a4 a5 a6 a7 a8 s a10 a11) (fun i s => ∀ r, r < i → s r = 16777216) 4 0 a9 (by omega) (fun r hr => absurd hr (by omega)) ?_ ?_
  · intro m s hs
    refine pk_le 4 4 (fun _ => ?_) (fun z => absurd z (by omega))
    have hS0 : lc_Sn n K A B a4 a5 a6 := by
      intro p hp
      obtain ⟨z1, z2, z3⟩ := hz p hp
      refine ⟨Or.inl z1, fun y => absurd z1 y, fun r hr b hb y => ?_, fun o ho y => ?_⟩
      · rw [z3 r hr] at y; exact absurd y lc_0F
      · rw [z2] at y; exact absurd y lc_0F
    refine lc_w_join (t := 0) (by omega) (fun g' hg' _ _ => lc_w_96 hP (lc_Sn_j hS0 (lc_R_0 h0) (fun r hr b hb y => ?_) (fun o ho y => ?_)) (fun _ => ?_) (fun a4' a5' a6' a9' k1 k2 k3 => H a4' a5' a6' a9' (lc_fix hP.1 k1 k2 k3)))
    · rw [hs r hr] at y
      rw [(lc_FT hb).mp y]; exact lc_H_0 h0 hr
    · exact lc_M_0 h0 ((lc_15T ho).mp y)
    · refine ⟨by rw [pk_us]; decide, fun r hr => ?_, fun o ho => ?_⟩
      · rw [lc_jh_in hr, hs r hr]; exact lc_orT.mpr (Or.inr ((lc_FT (by decide)).mpr rfl))
      · rw [pk_us]; exact lc_orT.mpr (Or.inr ((lc_15T (by omega)).mpr ho))
  · intro m i s hi hs hw
    refine pk_le 4 i (fun z => absurd z (by omega)) (fun _ => ⟨pk_in i 4 hi, nm_r (by rw [nI_clamp (by omega)]) (nm_r (nI_1 i) (hw _ (fun r hr => ?_)))⟩)
    by_cases e : r = i
    · rw [e, pk_us]
    · rw [pk_un e]; exact hs r (by omega)
theorem lc_w_26 {post : St1 → Prop} {J : Int32 → (Nat → Int32) → (Nat → Int32) → (Nat → Int32) → (Nat → Int32) → (Nat → Int32) → (Nat → Int32) → (Nat → Int32) → (Nat → Int32) → (Nat → Int32) → (Nat → Int32) → (Nat → Int32) → Prop} {p : Nat} {c : Int32} (hp : p < 24)
    (H : ∀ a5', (∀ r, r < 4 → a5' (4 * p + r) = 0) → (∀ j, j < 4 * p → a5' j = a5 j) → J (nI (p + 1)) a1 a2 a3 a4 a5' a6 a7 a8 a9 a10 a11) :
    ∃ fu, wX_findHeld_26 post J (nI p) c st g qd fu 0 a1 a2 a3 a4 a5 a6 a7 a8 a9 a10 a11 := by
  refine pk_loop (fun m i s => wX_findHeld_26 post J (nI p) c st g qd m (nI i) a1 a2 a3 a4 s a6 a7 a8 a9 a10 a11) (fun i s => (∀ r, r < i → s (4 * p + r) = 0) ∧ ∀ j, j < 4 * p → s j = a5 j) 4 0 a5 (by omega) ⟨fun r hr => absurd hr (by omega), fun _ _ => rfl⟩ ?_ ?_
  · intro m s hs
    exact pk_le 4 4 (fun _ => nm_r (nI_1 p) (H s hs.1 hs.2)) (fun z => absurd z (by omega))
  · intro m i s hi hs hw
    refine pk_le 4 i (fun z => absurd z (by omega)) (fun _ => ⟨pk_in (4 * p + i) 96 (by omega) (lc_ix p i), nm_r (by rw [lc_ix, nI_clamp (by omega)]) (nm_r (nI_1 i) (hw _ ⟨fun r hr => ?_, fun j hj => ?_⟩))⟩)
    · by_cases e : r = i
      · rw [e, pk_us]
      · rw [pk_un (by omega)]; exact hs.1 r (by omega)
    · rw [pk_un (by omega)]; exact hs.2 j hj
theorem lc_w_findHeld {post : St1 → Prop} (hP : lc_P n K A B a1 a2 a3)
    (H : ∀ a4' a5' a6' a9', lc_S1 n K A B a4' a5' a6' → post (nI n, st, 0, qd, a1, a2, a3, a4', a5', a6', a7, a8, a9', a10, a11)) :
    wpX_findHeld post (nI n, st, g, qd, a1, a2, a3, a4, a5, a6, a7, a8, a9, a10, a11) := by
  have hn := hP.1.1
  refine pk_loop (fun m p s => wX_findHeld_2 post (nI n) st g qd m (nI p) a1 a2 a3 s.1 s.2.1 s.2.2 a7 a8 a9 a10 a11) (fun p s => ∀ j, j < p → s.1 j = 0 ∧ s.2.2 j = 0 ∧ ∀ r, r < 4 → s.2.1 (4 * j + r) = 0) n 0 (a4, a5, a6) (by omega) (fun j hj => absurd hj (by omega)) ?_ ?_
  · rintro m ⟨s4, s5, s6⟩ hs
    dsimp only at hs ⊢
    refine pk_le n n (fun _ => pk_le n 0 (fun z => ?_) (fun z => lc_w_63 hP z hs H)) (fun z => absurd z (by omega))
    have e : n = 0 := by omega
    exact lc_w_96 hP (fun p hp => absurd hp (by omega)) (fun h0 => absurd h0 (by omega)) (fun a4' a5' a6' a9' k1 k2 k3 => H a4' a5' a6' a9' (lc_fix hP.1 k1 k2 k3))
  · rintro m p ⟨s4, s5, s6⟩ hp hs hw
    dsimp only at hs hw ⊢
    have hc : (nI p).toNatClampNeg = p := nI_clamp (by omega)
    refine pk_le n p (fun z => absurd z (by omega)) (fun _ => ⟨pk_in p 24 (by omega), nm_r (e' := upd s4 p 0) (by rw [hc]) ⟨pk_in p 24 (by omega), nm_r (e' := upd s6 p 0) (by rw [hc]) (lc_w_26 (by omega) (fun s5' k1 k2 => hw (upd s4 p 0, s5', upd s6 p 0) (fun j hj => ?_)))⟩⟩)
    dsimp only
    by_cases e : j = p
    · subst e; exact ⟨pk_us, pk_us, k1⟩
    · obtain ⟨y1, y2, y3⟩ := hs j (by omega)
      rw [pk_un e, pk_un e]
      exact ⟨y1, y2, fun r hr => by rw [k2 _ (by omega)]; exact y3 r hr⟩
end
end
section
/-! the backward flow -/
theorem lc_and1 (x : Int32) (a : Nat) (ha : a < 32) : x &&& ((1 : Int32) <<< (nI a &&& 31)) = 0 ↔ ¬ lc_bt x a = true := by
  rw [lc_eq0]
  constructor
  · intro h g
    exact h a ha (lc_andT.mpr ⟨g, (lc_oneT a ha ha).mpr rfl⟩)
  · intro h i hi g
    obtain ⟨g1, g2⟩ := lc_andT.mp g
    rw [(lc_oneT a ha hi).mp g2] at g1
    exact h g1
section
variable {n : Nat} {K A B : Nat → Nat} {st g qd : Int32} {a1 a2 a3 a4 a5 a6 a7 a8 a9 a10 a11 : Nat → Int32}
theorem lc_w_wb {post : Int32 → Prop} {p : Nat} (hP : lc_P n K A B a1 a2 a3) (hp : p < n)
    (H : ∀ x, (∀ r, r < 32 → (lc_bt x r = true ↔ ∃ i q, lc_E n K A p i q ∧ lc_bt (a7 q) r = true)) → post x) :
    wpX_wantedBehind post (nI n, st, g, qd, a1, a2, a3, a4, a5, a6, a7, a8, a9, a10, a11) (nI p) := by
  have hn := hP.1.1
  refine pk_loop (fun m i s => wX_wantedBehind_4 post (nI p) (nI n) st g qd a1 a2 a3 a4 a5 a6 a7 a8 a9 a10 a11 m s (nI i))
    (fun i s => ∀ r, r < 32 → (lc_bt s r = true ↔ ∃ j q, j < i ∧ lc_E n K A p j q ∧ lc_bt (a7 q) r = true)) 2 0 0 (by omega) (fun r _ => ⟨fun z => absurd z lc_0F, fun ⟨j, q, hj, _⟩ => absurd hj (by omega)⟩) ?_ ?_
  · intro m s hs
    refine pk_le 2 2 (fun _ => H s (fun r hr => (hs r hr).trans ⟨fun ⟨j, q, _, z⟩ => ⟨j, q, z⟩, fun ⟨j, q, z⟩ => ⟨j, q, lc_E_i z.1, z⟩⟩)) (fun z => absurd z (by omega))
  · intro m i s hi hs hw
    refine pk_le 2 i (fun z => absurd z (by omega)) (fun _ => lc_w_behind hP hp hi (fun hno => br_t rfl (nm_r (nI_1 i) (hw s (fun r hr => (hs r hr).trans ?_)))) (fun q hq => ?_))
    · constructor
      · intro ⟨j, q, hj, z⟩; exact ⟨j, q, by omega, z⟩
      · intro ⟨j, q, hj, z⟩
        by_cases e : j = i
        · rw [e] at z; exact absurd z.1 (hno q)
        · exact ⟨j, q, by omega, z⟩
    · have hq24 : q < n := hq.2.1
      refine br_f (fun z => ?_) ⟨pk_in q 24 (by omega), nm_r (by rw [nI_clamp (by omega)]) (nm_r (nI_1 i) (hw _ (fun r hr => ?_)))⟩
      · have y : nI q < 0 := by rw [z]; decide
        exact absurd y (nI_pos (by omega))
      · rw [lc_orT, hs r hr]
        constructor
        · rintro (⟨j, q', hj, z⟩ | z)
          · exact ⟨j, q', by omega, z⟩
          · exact ⟨i, q, by omega, hq, z⟩
        · intro ⟨j, q', hj, z⟩
          by_cases e : j = i
          · rw [e] at z
            right
            rw [lc_E_f hq z.1]; exact z.2
          · exact Or.inl ⟨j, q', by omega, z⟩
theorem lc_w_wt {post : Int32 → Prop} {p : Nat} {x : Int32} {c : Int32} (hP : lc_P n K A B a1 a2 a3) (hp : p < n)
    (H : ∀ y, (∀ r, r < 32 → (lc_bt y r = true ↔ (K p = 7 ∧ r = A p) ∨ ∃ r', lc_hd K A B p r r' ∧ lc_bt x r' = true)) → post y) :
    wpX_wantedThrough post (c, st, g, qd, a1, a2, a3, a4, a5, a6, a7, a8, a9, a10, a11) (nI p) x := by
  obtain ⟨hw, hv⟩ := hP
  obtain ⟨e1, e2, e3⟩ := hv p hp
  obtain ⟨k1, k2, k3, k4⟩ := hw.2 p hp
  have hn := hw.1
  have hc : (nI p).toNatClampNeg = p := nI_clamp (by omega)
  have kill : (K p = 3 ∨ K p = 4 ∨ K p = 8) → post (x &&& (((1 : Int32) <<< (nI (A p % 4) &&& 31)) ^^^ (-1))) := fun hk => by
    have hA := k4 (by omega)
    refine H _ (fun r hr => ?_)
    rw [lc_andT, lc_notT _ hr, lc_oneT _ (by omega) hr]
    constructor
    · intro ⟨y, z⟩; exact Or.inr ⟨r, by unfold lc_hd; omega, y⟩
    · rintro (⟨y, _⟩ | ⟨r', y, z⟩)
      · omega
      · have : r' = r ∧ r ≠ A p := by unfold lc_hd at y; omega
        rw [this.1] at z
        exact ⟨z, by omega⟩
  have same : (∀ r r', lc_hd K A B p r r' ↔ r' = r) → K p ≠ 7 → post x := fun h7 hk => by
    refine H _ (fun r hr => ?_)
    constructor
    · intro y; exact Or.inr ⟨r, (h7 r r).mpr rfl, y⟩
    · rintro (⟨y, _⟩ | ⟨r', y, z⟩)
      · omega
      · rw [(h7 r r').mp y] at z; exact z
  have b64 : (K p = 5 ∨ K p = 6) → wX_wantedThrough_64 post (nI p) x (nI (K p)) ((1 : Int32) <<< (nI (A p % 4) &&& 31)) c st g qd a1 a2 a3 a4 a5 a6 a7 a8 a9 a10 a11 := fun hk => by
    have hA := k4 (by omega)
    unfold wX_wantedThrough_64
    refine ⟨pk_in p 24 (by omega), pk_in p 24 (by omega), ?_⟩
    rw [hc, e2, e3]
    refine pk_eq (A p) (B p) (fun z => same (fun r r' => by unfold lc_hd; omega) (by omega)) (fun z => ⟨pk_in p 24 (by omega), nm_e ?_⟩)
    have bit : ∀ v : Int32, (∀ r, r < 32 → (lc_bt v r = true ↔ lc_bt x r = true ∧ r ≠ A p ∧ (K p = 5 → r ≠ B p))) → wX_wantedThrough_116 post x ((1 : Int32) <<< (nI (A p % 4) &&& 31)) ((1 : Int32) <<< (nI (B p) &&& 31)) v c st g qd a1 a2 a3 a4 a5 a6 a7 a8 a9 a10 a11 := fun v hv' => by
      unfold wX_wantedThrough_116
      have t := lc_and1 x (A p) (by omega)
      rw [show A p % 4 = A p by omega]
      refine br_c (fun y => H _ (fun r hr => ?_)) (fun y => H _ (fun r hr => ?_))
      · have y' := t.mp y
        rw [hv' r hr]
        constructor
        · intro ⟨u1, u2, u3⟩
          exact Or.inr ⟨r, by unfold lc_hd; omega, u1⟩
        · rintro (⟨u1, _⟩ | ⟨r', u1, u2⟩)
          · omega
          · by_cases er : r' = A p
            · rw [er] at u2; exact absurd u2 y'
            · have : r' = r ∧ (K p = 5 → r ≠ B p) := by unfold lc_hd at u1; omega
              rw [this.1] at u2 er
              exact ⟨u2, er, this.2⟩
      · have y' : lc_bt x (A p) = true := by
          rcases Classical.em (lc_bt x (A p) = true) with u | u
          · exact u
          · exact absurd (t.mpr u) y
        rw [lc_orT, hv' r hr, lc_oneT _ (by omega) hr]
        constructor
        · rintro (⟨u1, u2, u3⟩ | u1)
          · exact Or.inr ⟨r, by unfold lc_hd; omega, u1⟩
          · exact Or.inr ⟨A p, by unfold lc_hd; omega, y'⟩
        · rintro (⟨u1, _⟩ | ⟨r', u1, u2⟩)
          · omega
          · by_cases er : r = B p
            · exact Or.inr er
            · have : r' = r ∧ r ≠ A p := by unfold lc_hd at u1; omega
              rw [this.1] at u2
              exact Or.inl ⟨u2, this.2, fun _ => er⟩
    refine pk_eq (K p) 5 (fun z5 => bit _ (fun r hr => ?_)) (fun z5 => bit _ (fun r hr => ?_))
    · rw [lc_andT, lc_andT, lc_notT _ hr, lc_notT _ hr, lc_oneT _ (by omega) hr, lc_oneT _ (by omega) hr]
      constructor
      · intro ⟨⟨u1, u2⟩, u3⟩; exact ⟨u1, by omega, fun _ => u3⟩
      · intro ⟨u1, u2, u3⟩; exact ⟨⟨u1, by omega⟩, u3 z5⟩
    · rw [lc_andT, lc_notT _ hr, lc_oneT _ (by omega) hr]
      constructor
      · intro ⟨u1, u2⟩; exact ⟨u1, by omega, fun u => absurd u z5⟩
      · intro ⟨u1, u2, u3⟩; exact ⟨u1, by omega⟩
  unfold wpX_wantedThrough
  refine ⟨pk_in p 24 (by omega), nm_r (by rw [hc, e1]) ⟨pk_in p 24 (by omega), nm_r (by rw [hc, e2, lc_and3 _ (by omega)]) ?_⟩⟩
  refine pk_eq (K p) 3 (fun z => kill (by omega)) (fun z3 => pk_eq (K p) 4 (fun z => kill (by omega)) (fun z4 => pk_eq (K p) 8 (fun z => kill (by omega)) (fun z8 => pk_eq (K p) 7 (fun z => H _ (fun r hr => ?_)) (fun z7 => pk_eq (K p) 5 (fun z => b64 (by omega)) (fun z5 => pk_eq (K p) 6 (fun z => b64 (by omega)) (fun z6 => same (fun r r' => by unfold lc_hd; omega) z7))))))
  have hA := k4 (by omega)
  rw [lc_orT, lc_oneT _ (by omega) hr]
  constructor
  · rintro (y | y)
    · exact Or.inr ⟨r, by unfold lc_hd; omega, y⟩
    · exact Or.inl ⟨z, by omega⟩
  · rintro (⟨_, y⟩ | ⟨r', y, v⟩)
    · exact Or.inr (by omega)
    · have : r' = r := by unfold lc_hd at y; omega
      rw [this] at v
      exact Or.inl v
end
def lc_Tn (n : Nat) (K A B : Nat → Nat) (a7 a8 : Nat → Int32) : Prop := ∀ p, p < n → (∀ r, r < 32 → lc_bt (a7 p) r = true → lc_W n K A B p r) ∧ (∀ r, r < 32 → lc_bt (a8 p) r = true → ∃ i q, lc_E n K A p i q ∧ lc_W n K A B q r)
def lc_Tm (n : Nat) (K A B : Nat → Nat) (a7 a8 : Nat → Int32) : Prop := ∀ p, p < n → (∀ r, r < 32 → lc_bt (a8 p) r = true → ∃ i q, lc_E n K A p i q ∧ lc_bt (a7 q) r = true) ∧ (∀ r, r < 32 → lc_bt (a7 p) r = true → (K p = 7 ∧ r = A p) ∨ ∃ r', lc_hd K A B p r r' ∧ lc_bt (a8 p) r' = true)
noncomputable def lc_wu (a7 a8 : Nat → Int32) (p : Nat) : Nat := lc_cn (fun r => lc_bt (a7 p) r = true) 4 + lc_cn (fun r => lc_bt (a8 p) r = true) 4
noncomputable def lc_nu (n : Nat) (a7 a8 : Nat → Int32) : Nat := lc_sm (lc_wu a7 a8) n
def lc_Q2 (n : Nat) (K A B : Nat → Nat) (b7 b8 : Nat → Int32) (g : Int32) (a7 a8 : Nat → Int32) : Prop := lc_Tn n K A B a7 a8 ∧ lc_Tm n K A B a7 a8 ∧ ((g = 0 ∧ a7 = b7 ∧ a8 = b8) ∨ (g = 1 ∧ lc_nu n b7 b8 < lc_nu n a7 a8))
def lc_c2 (n : Nat) (K A B : Nat → Nat) (b7 b8 : Nat → Int32) (p : Nat) : Prop := (∀ r, r < 32 → (∃ i q, lc_E n K A p i q ∧ lc_bt (b7 q) r = true) → lc_bt (b8 p) r = true) ∧ (∀ r, r < 32 → ((K p = 7 ∧ r = A p) ∨ ∃ r', lc_hd K A B p r r' ∧ lc_bt (b8 p) r' = true) → lc_bt (b7 p) r = true)
theorem lc_nu_b {n : Nat} (hn : n ≤ 24) (a7 a8 : Nat → Int32) : lc_nu n a7 a8 ≤ 192 := by
  have h := lc_sm_b (f := lc_wu a7 a8) (n := n) (c := 8) (fun p _ => by
    have h1 := lc_cn_b (fun r => lc_bt (a7 p) r = true) 4
    have h2 := lc_cn_b (fun r => lc_bt (a8 p) r = true) 4
    unfold lc_wu
    omega)
  unfold lc_nu
  omega
/-- a bit more below 4, else the same -/
theorem lc_more {x y : Int32} (h : ∀ r, r < 32 → lc_bt x r = true → lc_bt y r = true) (h4 : ∀ r, r < 32 → lc_bt y r = true → r < 4) (hne : ¬ y = x) : lc_cn (fun r => lc_bt x r = true) 4 < lc_cn (fun r => lc_bt y r = true) 4 := by
  refine lc_cn_lt (fun r hr => h r (by omega)) ?_
  rcases Classical.em (∃ i, i < 4 ∧ lc_bt y i = true ∧ ¬ lc_bt x i = true) with z | z
  · exact z
  · refine absurd (lc_extI (fun i hi => ⟨fun u => ?_, h i hi⟩)) hne
    rcases Classical.em (lc_bt x i = true) with v | v
    · exact v
    · exact absurd ⟨i, h4 i hi u, u, v⟩ z
section
variable {n : Nat} {K A B : Nat → Nat} {b7 b8 a7 a8 : Nat → Int32} {g : Int32} {p : Nat} {x y : Int32}
theorem lc_Q2_u {g' : Int32} (w : lc_wf n K A B) (hp : p < n) (H : lc_Q2 n K A B b7 b8 g a7 a8)
    (hx : ∀ r, r < 32 → (lc_bt x r = true ↔ ∃ i q, lc_E n K A p i q ∧ lc_bt (a7 q) r = true))
    (hy : ∀ r, r < 32 → (lc_bt y r = true ↔ (K p = 7 ∧ r = A p) ∨ ∃ r', lc_hd K A B p r r' ∧ lc_bt x r' = true))
    (hg : g' = 0 ∨ g' = 1) (g0 : g' = 0 → g = 0 ∧ y = a7 p ∧ x = a8 p) (g1 : g' = 1 → g ≠ 0 ∨ ¬ y = a7 p ∨ ¬ x = a8 p) :
    lc_Q2 n K A B b7 b8 g' (upd a7 p y) (upd a8 p x) ∧ (g' = 0 → g = 0 ∧ lc_c2 n K A B b7 b8 p) := by
  obtain ⟨q1, q2, q3⟩ := H
  have mx : ∀ r, r < 32 → lc_bt (a8 p) r = true → lc_bt x r = true := fun r hr z => (hx r hr).mpr ((q2 p hp).1 r hr z)
  have my : ∀ r, r < 32 → lc_bt (a7 p) r = true → lc_bt y r = true := fun r hr z => (hy r hr).mpr (by
    rcases (q2 p hp).2 r hr z with v | ⟨r', v1, v2⟩
    · exact Or.inl v
    · exact Or.inr ⟨r', v1, mx r' (lc_b32 v2) v2⟩)
  have m7 : ∀ q r, r < 32 → lc_bt (a7 q) r = true → lc_bt (upd a7 p y q) r = true := fun q r hr z => by
    by_cases e : q = p
    · rw [e, pk_us]; rw [e] at z; exact my r hr z
    · rw [pk_un e]; exact z
  have sx : ∀ r, r < 32 → lc_bt x r = true → ∃ i q, lc_E n K A p i q ∧ lc_W n K A B q r := fun r hr z => by
    obtain ⟨i, q, e, v⟩ := (hx r hr).mp z
    exact ⟨i, q, e, (q1 q e.2.1).1 r hr v⟩
  have sy : ∀ r, r < 32 → lc_bt y r = true → lc_W n K A B p r := fun r hr z => by
    rcases (hy r hr).mp z with ⟨v1, v2⟩ | ⟨r', v1, v2⟩
    · rw [v2]; exact lc_W_u hp v1
    · obtain ⟨i, q, e, v⟩ := sx r' (lc_b32 v2) v2
      exact lc_W_s e v1 v
  refine ⟨⟨fun p' hp' => ?_, fun p' hp' => ?_, ?_⟩, fun z => ?_⟩
  · by_cases e : p' = p
    · subst e; rw [pk_us, pk_us]; exact ⟨sy, sx⟩
    · rw [pk_un e, pk_un e]; exact q1 p' hp'
  · by_cases e : p' = p
    · subst e
      rw [pk_us, pk_us]
      refine ⟨fun r hr z => ?_, fun r hr z => (hy r hr).mp z⟩
      obtain ⟨i, q, e, v⟩ := (hx r hr).mp z
      exact ⟨i, q, e, m7 q r hr v⟩
    · rw [pk_un e, pk_un e]
      refine ⟨fun r hr z => ?_, (q2 p' hp').2⟩
      obtain ⟨i, q, e, v⟩ := (q2 p' hp').1 r hr z
      exact ⟨i, q, e, m7 q r hr v⟩
  · rcases hg with hg | hg
    · left
      obtain ⟨z1, z2, z3⟩ := g0 hg
      rcases q3 with ⟨_, v1, v2⟩ | ⟨v, _⟩
      · refine ⟨hg, ?_, ?_⟩
        · rw [← v1]
          funext j
          by_cases e : j = p
          · rw [e, pk_us, z2]
          · rw [pk_un e]
        · rw [← v2]
          funext j
          by_cases e : j = p
          · rw [e, pk_us, z3]
          · rw [pk_un e]
      · rw [z1] at v; exact absurd v (by decide)
    · right
      refine ⟨hg, ?_⟩
      have l7 : lc_cn (fun r => lc_bt (a7 p) r = true) 4 ≤ lc_cn (fun r => lc_bt y r = true) 4 := lc_cn_le (fun r hr => my r (by omega))
      have l8 : lc_cn (fun r => lc_bt (a8 p) r = true) 4 ≤ lc_cn (fun r => lc_bt x r = true) 4 := lc_cn_le (fun r hr => mx r (by omega))
      have lp : ∀ j, j < n → lc_wu a7 a8 j ≤ lc_wu (upd a7 p y) (upd a8 p x) j := fun j _ => by
        unfold lc_wu
        by_cases e : j = p
        · subst e; rw [pk_us, pk_us]; omega
        · rw [pk_un e, pk_un e]; exact Nat.le_refl _
      have le : lc_nu n a7 a8 ≤ lc_nu n (upd a7 p y) (upd a8 p x) := lc_sm_le lp
      rcases q3 with ⟨v0, v1, v2⟩ | ⟨_, v⟩
      · rw [← v1, ← v2]
        refine lc_sm_lt lp hp ?_
        unfold lc_wu
        rw [pk_us, pk_us]
        rcases g1 hg with z | z | z
        · exact absurd v0 z
        · have := lc_more my (fun r hr v => lc_W_4 w (sy r hr v)) z
          omega
        · have := lc_more mx (fun r hr v => by obtain ⟨_, _, _, v⟩ := sx r hr v; exact lc_W_4 w v) z
          omega
      · exact Nat.lt_of_lt_of_le v le
  · obtain ⟨z1, z2, z3⟩ := g0 z
    rcases q3 with ⟨_, v1, v2⟩ | ⟨v, _⟩
    · refine ⟨z1, ?_⟩
      subst v1 v2 z2 z3
      exact ⟨fun r hr v => (hx r hr).mpr v, fun r hr v => (hy r hr).mpr v⟩
    · rw [z1] at v; exact absurd v (by decide)
end
def lc_S2 (n : Nat) (K A B : Nat → Nat) (a7 a8 : Nat → Int32) : Prop := ∀ p, p < n → (∀ r, r < 32 → (lc_bt (a7 p) r = true ↔ lc_W n K A B p r)) ∧ (∀ r, r < 32 → (lc_bt (a8 p) r = true ↔ ∃ i q, lc_E n K A p i q ∧ lc_W n K A B q r))
section
variable {n : Nat} {K A B : Nat → Nat} {st g qd : Int32} {b7 b8 a1 a2 a3 a4 a5 a6 a7 a8 a9 a10 a11 : Nat → Int32}
theorem lc_fix2 (w : lc_wf n K A B) (hS : lc_Tn n K A B a7 a8) (hC : ∀ p, p < n → lc_c2 n K A B a7 a8 p) : lc_S2 n K A B a7 a8 := by
  have W : ∀ p r, lc_W n K A B p r → r < 4 ∧ lc_bt (a7 p) r = true := fun p r h => h (fun p r => r < 4 ∧ lc_bt (a7 p) r = true)
    (fun p hp k => by
      have hA := (w.2 p hp).2.2.2 (by omega)
      exact ⟨hA, (hC p hp).2 (A p) (by omega) (Or.inl ⟨k, rfl⟩)⟩)
    (fun p i q r r' e d z => by
      have hr := lc_hd_b4 w e.1 z.1 d
      have hr' := z.1
      exact ⟨hr, (hC p e.1).2 r (by omega) (Or.inr ⟨r', d, (hC p e.1).1 r' (by omega) ⟨i, q, e, z.2⟩⟩)⟩)
  intro p hp
  refine ⟨fun r hr => ⟨(hS p hp).1 r hr, fun z => (W p r z).2⟩, fun r hr => ⟨(hS p hp).2 r hr, fun ⟨i, q, e, z⟩ => (hC p hp).1 r hr ⟨i, q, e, (W q r z).2⟩⟩⟩
theorem lc_w_w63 {post : St1 → Prop} {J : Int32 → Int32 → (Nat → Int32) → (Nat → Int32) → (Nat → Int32) → (Nat → Int32) → (Nat → Int32) → (Nat → Int32) → (Nat → Int32) → (Nat → Int32) → (Nat → Int32) → (Nat → Int32) → (Nat → Int32) → Prop} {x1 : Int32}
    (hP : lc_P n K A B a1 a2 a3) (hQ : lc_Q2 n K A B b7 b8 0 b7 b8)
    (H : ∀ g' a7' a8', lc_Q2 n K A B b7 b8 g' a7' a8' → (g' = 0 → ∀ p, p < n → lc_c2 n K A B b7 b8 p) → J (x1 + 1) g' a1 a2 a3 a4 a5 a6 a7' a8' a9 a10 a11) :
    ∃ fu, wX_findWanted_63 post J x1 (nI n) st qd fu (nI n + (-1)) 0 a1 a2 a3 a4 a5 a6 b7 b8 a9 a10 a11 := by
  have hn := hP.1.1
  refine ⟨n + 1, pk_loopD (fun m i s => i ≤ n → wX_findWanted_63 post J x1 (nI n) st qd m (nI i + (-1)) s.1 a1 a2 a3 a4 a5 a6 s.2.1 s.2.2 a9 a10 a11)
    (fun i s => lc_Q2 n K A B b7 b8 s.1 s.2.1 s.2.2 ∧ (s.1 = 0 → ∀ p, i ≤ p → p < n → lc_c2 n K A B b7 b8 p)) ?_ ?_ n (0, b7, b8) ⟨hQ, fun _ p h1 h2 => absurd h1 (by omega)⟩ (Nat.le_refl n)⟩
  · rintro m ⟨g1, s7, s8⟩ ⟨h1, h2⟩ _
    dsimp only at h1 h2 ⊢
    exact br_t (by decide) (nm_e (H g1 s7 s8 h1 (fun z p hp => h2 z p (by omega) hp)))
  · rintro m i ⟨g1, s7, s8⟩ ⟨h1, h2⟩ hw hi
    dsimp only at h1 h2 hw hi ⊢
    rw [pk_m1]
    have hc : (nI i).toNatClampNeg = i := nI_clamp (by omega)
    refine br_f (nI_pos (by omega)) (lc_w_wb hP (by omega) (fun x hx => lc_w_wt hP (by omega) (fun y hy => ?_)))
    have b115 : ∀ z, (z = 0 ∨ z = 1) → (z = 0 → g1 = 0 ∧ y = s7 i ∧ x = s8 i) → (z = 1 → g1 ≠ 0 ∨ ¬ y = s7 i ∨ ¬ x = s8 i) → wX_findWanted_115 post J (wX_findWanted_63 post J x1 (nI n) st qd m) x1 (nI i) x y z (nI n) st g1 qd a1 a2 a3 a4 a5 a6 s7 s8 a9 a10 a11 := fun z hz z0 z1 => by
      obtain ⟨u1, u2⟩ := lc_Q2_u hP.1 (show i < n by omega) h1 hx hy hz z0 z1
      unfold wX_findWanted_115
      refine ⟨by rcases hz with rfl | rfl <;> rfl, by rcases hz with rfl | rfl <;> rfl, pk_in i 24 (by omega), nm_r (e' := upd s8 i x) (by rw [hc]) ⟨pk_in i 24 (by omega), nm_r (e' := upd s7 i y) (by rw [hc]) (nm_e (hw (z, upd s7 i y, upd s8 i x) ⟨u1, fun v p k1 k2 => ?_⟩ (by omega)))⟩⟩
      obtain ⟨v1, v2⟩ := u2 v
      by_cases e : p = i
      · rw [e]; exact v2
      · exact h2 v1 p (by omega) k2
    rw [hc]
    exact br_c (fun zg => ⟨pk_in i 24 (by omega), br_c (fun z7 => ⟨pk_in i 24 (by omega), br_c (fun z8 => b115 0 (Or.inl rfl) (fun _ => ⟨zg, z7, z8⟩) (fun v => absurd v (by decide))) (fun z8 => b115 1 (Or.inr rfl) (fun v => absurd v (by decide)) (fun _ => Or.inr (Or.inr z8)))⟩)
        (fun z7 => b115 1 (Or.inr rfl) (fun v => absurd v (by decide)) (fun _ => Or.inr (Or.inl z7)))⟩)
      (fun zg => b115 1 (Or.inr rfl) (fun v => absurd v (by decide)) (fun _ => Or.inl zg))
theorem lc_w_w37 {post : St1 → Prop} (hP : lc_P n K A B a1 a2 a3) (hS : lc_Tn n K A B a7 a8) (hT : lc_Tm n K A B a7 a8)
    (H : ∀ a7' a8', lc_S2 n K A B a7' a8' → post (nI n, st, 0, qd, a1, a2, a3, a4, a5, a6, a7', a8', a9, a10, a11)) :
    ∃ fu, wX_findWanted_37 post (nI n) st qd fu 0 1 a1 a2 a3 a4 a5 a6 a7 a8 a9 a10 a11 := by
  have hn := hP.1.1
  refine loop_m (fun m (s : Nat × Int32 × (Nat → Int32) × (Nat → Int32)) => wX_findWanted_37 post (nI n) st qd m (nI s.1) s.2.1 a1 a2 a3 a4 a5 a6 s.2.2.1 s.2.2.2 a9 a10 a11)
    (fun s => s.1 < 201 ∧ lc_Tn n K A B s.2.2.1 s.2.2.2 ∧ lc_Tm n K A B s.2.2.1 s.2.2.2 ∧ ((s.2.1 = 0 ∧ ∀ p, p < n → lc_c2 n K A B s.2.2.1 s.2.2.2 p) ∨ (s.2.1 = 1 ∧ s.1 ≤ lc_nu n s.2.2.1 s.2.2.2)))
    (fun s => 201 - s.1) ?_ (0, 1, a7, a8) ⟨by show 0 < 201; decide, hS, hT, Or.inr ⟨rfl, Nat.zero_le _⟩⟩
  rintro m ⟨k, g1, s7, s8⟩ ⟨h0, h1, h2, h3⟩ hw
  dsimp only at h0 h1 h2 h3 hw ⊢
  rcases h3 with ⟨z, h3⟩ | ⟨z, h3⟩
  · subst z
    have hf := H s7 s8 (lc_fix2 hP.1 h1 h3)
    exact br_c (fun _ => hf) (fun _ => br_t rfl hf)
  · have hb := lc_nu_b hn s7 s8
    refine pk_le 200 k (fun y => absurd y (by omega)) (fun y => br_f (by rw [z]; decide) (nm_r (Int32.sub_eq_add_neg _ _) (lc_w_w63 hP ⟨h1, h2, Or.inl ⟨rfl, rfl, rfl⟩⟩ (fun g' s7' s8' k1 k2 => ?_))))
    rw [nI_1]
    refine hw (k + 1, g', s7', s8') ⟨by dsimp only; omega, k1.1, k1.2.1, ?_⟩ (by dsimp only; omega)
    dsimp only
    rcases k1.2.2 with ⟨x1, x2, x3⟩ | ⟨x1, x2⟩
    · left
      subst x2 x3
      exact ⟨x1, k2 x1⟩
    · right
      exact ⟨x1, by omega⟩
theorem lc_w_findWanted {post : St1 → Prop} (hP : lc_P n K A B a1 a2 a3)
    (H : ∀ a7' a8', lc_S2 n K A B a7' a8' → post (nI n, st, 0, qd, a1, a2, a3, a4, a5, a6, a7', a8', a9, a10, a11)) :
    wpX_findWanted post (nI n, st, g, qd, a1, a2, a3, a4, a5, a6, a7, a8, a9, a10, a11) := by
  have hn := hP.1.1
  refine pk_loop (fun m p s => wX_findWanted_2 post (nI n) st g qd m (nI p) a1 a2 a3 a4 a5 a6 s.1 s.2 a9 a10 a11) (fun p s => ∀ j, j < p → s.1 j = 0 ∧ s.2 j = 0) n 0 (a7, a8) (by omega) (fun j hj => absurd hj (by omega)) ?_ ?_
  · rintro m ⟨s7, s8⟩ hs
    dsimp only at hs ⊢
    refine pk_le n n (fun _ => lc_w_w37 hP (fun p hp => ⟨fun r hr z => ?_, fun r hr z => ?_⟩) (fun p hp => ⟨fun r hr z => ?_, fun r hr z => ?_⟩) H) (fun z => absurd z (by omega))
    · rw [(hs p hp).1] at z; exact absurd z lc_0F
    · rw [(hs p hp).2] at z; exact absurd z lc_0F
    · rw [(hs p hp).2] at z; exact absurd z lc_0F
    · rw [(hs p hp).1] at z; exact absurd z lc_0F
  · rintro m p ⟨s7, s8⟩ hp hs hw
    dsimp only at hs hw ⊢
    have hc : (nI p).toNatClampNeg = p := nI_clamp (by omega)
    refine pk_le n p (fun z => absurd z (by omega)) (fun _ => ⟨pk_in p 24 (by omega), nm_r (e' := upd s7 p 0) (by rw [hc]) ⟨pk_in p 24 (by omega), nm_r (e' := upd s8 p 0) (by rw [hc]) (nm_r (nI_1 p) (hw (upd s7 p 0, upd s8 p 0) (fun j hj => ?_)))⟩⟩)
    dsimp only
    by_cases e : j = p
    · subst e; exact ⟨pk_us, pk_us⟩
    · rw [pk_un e, pk_un e]; exact hs j (by omega)
end
/-! an object that matches the picture; study -/
def lc_Ok (n : Nat) (K A B : Nat → Nat) (u : St1) : Prop := match u with
  | (c, st, g, qd, a1, a2, a3, a4, a5, a6, a7, a8, a9, a10, a11) => c = nI n ∧ lc_P n K A B a1 a2 a3 ∧ (st = 0 ∨ (st = 1 ∧ lc_S1 n K A B a4 a5 a6 ∧ lc_S2 n K A B a7 a8))
def lc_O1 (n : Nat) (K A B : Nat → Nat) (u : St1) : Prop := match u with
  | (c, st, g, qd, a1, a2, a3, a4, a5, a6, a7, a8, a9, a10, a11) => c = nI n ∧ lc_P n K A B a1 a2 a3 ∧ st = 1 ∧ lc_S1 n K A B a4 a5 a6 ∧ lc_S2 n K A B a7 a8
section
variable {n : Nat} {K A B : Nat → Nat}
theorem lc_O1_k {u : St1} (h : lc_O1 n K A B u) : lc_Ok n K A B u := by
  obtain ⟨c, st, g, qd, a1, a2, a3, a4, a5, a6, a7, a8, a9, a10, a11⟩ := u
  obtain ⟨h1, h2, h3, h4⟩ := h
  exact ⟨h1, h2, Or.inr ⟨h3, h4⟩⟩
theorem lc_w_study {post : St1 → Prop} {u : St1} (h : lc_Ok n K A B u) (H : ∀ u', lc_O1 n K A B u' → post u') : wpX_study post u := by
  obtain ⟨c, st, g, qd, a1, a2, a3, a4, a5, a6, a7, a8, a9, a10, a11⟩ := u
  obtain ⟨rfl, hP, h⟩ := h
  unfold wpX_study
  rcases h with rfl | ⟨rfl, h1, h2⟩
  · exact br_t rfl (lc_w_findHeld hP (fun a4' a5' a6' a9' k1 => lc_w_findWanted hP (fun a7' a8' k2 => H _ ⟨rfl, hP, rfl, k1, k2⟩)))
  · exact br_f (by decide) (H _ ⟨rfl, hP, rfl, h1, h2⟩)
end
end
section
/-! conflicts, faults and the other questions over a studied state -/
def lc_B (P : Prop) (x : Int32) : Prop := (x = 1 ∧ P) ∨ (x = 0 ∧ ¬ P)
theorem lc_B_n {P : Prop} {x : Int32} (h : lc_B P x) : narrow .boolean (.int x) = .int x := by
  rcases h with ⟨rfl, _⟩ | ⟨rfl, _⟩ <;> rfl
theorem lc_B_0 {P : Prop} {x : Int32} (h : lc_B P x) : x = 0 ↔ ¬ P := by
  rcases h with ⟨rfl, h⟩ | ⟨rfl, h⟩
  · exact ⟨fun z => absurd z (by decide), fun z => absurd h z⟩
  · exact ⟨fun _ => h, fun _ => rfl⟩
theorem lc_B_e {P Q : Prop} {x y : Int32} (h : lc_B P x) (k : lc_B Q y) (e : P ↔ Q) : x = y := by
  rcases h with ⟨rfl, h⟩ | ⟨rfl, h⟩ <;> rcases k with ⟨rfl, k⟩ | ⟨rfl, k⟩
  · rfl
  · exact absurd (e.mp h) k
  · exact absurd (e.mpr k) h
  · rfl
theorem lc_m1_ne {o : Nat} (h : o < 2 ^ 31) : ¬ nI o = -1 := fun z => absurd (show nI o < 0 by rw [z]; decide) (nI_pos h)
theorem lc_ow_f {K A B : Nat → Nat} {p o o' : Nat} (h : lc_ow K A B p o) (h' : lc_ow K A B p o') : o = o' := by
  unfold lc_ow at h h'; omega
section
variable {n : Nat} {K A B : Nat → Nat} {c st g qd : Int32} {a1 a2 a3 a4 a5 a6 a7 a8 a9 a10 a11 : Nat → Int32}
theorem lc_w_ml {post : Int32 → Prop} {p : Nat} (hP : lc_P n K A B a1 a2 a3) (hp : p < n) (H : ∀ x, lc_B (K p = 3 ∨ K p = 4) x → post x) :
    wpX_makesLoan post (c, st, g, qd, a1, a2, a3, a4, a5, a6, a7, a8, a9, a10, a11) (nI p) := by
  obtain ⟨hw, hv⟩ := hP
  obtain ⟨e1, e2, e3⟩ := hv p hp
  obtain ⟨k1, k2, k3, k4⟩ := hw.2 p hp
  have hn := hw.1
  have hc : (nI p).toNatClampNeg = p := nI_clamp (by omega)
  unfold wpX_makesLoan
  dsimp only
  rw [hc, e1]
  exact ⟨pk_in p 24 (by omega), pk_eq (K p) 3 (fun z => H 1 (Or.inl ⟨rfl, Or.inl z⟩)) (fun z => ⟨pk_in p 24 (by omega), pk_eq (K p) 4 (fun y => H 1 (Or.inl ⟨rfl, Or.inr y⟩)) (fun y => H 0 (Or.inr ⟨rfl, by omega⟩))⟩)⟩
theorem lc_w_ow {post : Int32 → Prop} {p : Nat} (hP : lc_P n K A B a1 a2 a3) (hp : p < n) (H0 : (∀ o, ¬ lc_ow K A B p o) → post (-1)) (H1 : ∀ o, o < 4 → lc_ow K A B p o → post (nI o)) :
    wpX_ownerOf post (c, st, g, qd, a1, a2, a3, a4, a5, a6, a7, a8, a9, a10, a11) (nI p) := by
  have hPP := hP
  obtain ⟨hw, hv⟩ := hP
  obtain ⟨e1, e2, e3⟩ := hv p hp
  obtain ⟨k1, k2, k3, k4⟩ := hw.2 p hp
  have hn := hw.1
  have hc : (nI p).toNatClampNeg = p := nI_clamp (by omega)
  unfold wpX_ownerOf
  dsimp only
  rw [hc, e1, e2, e3]
  refine ⟨pk_in p 24 (by omega), pk_lt 2 (K p) (fun z => lc_w_ml hPP hp (fun x hx => ?_)) (fun z => ⟨pk_in p 24 (by omega), H1 (A p) (k4 (by omega)) (Or.inl ⟨z, rfl⟩)⟩)⟩
  rcases hx with ⟨rfl, hx⟩ | ⟨rfl, hx⟩
  · exact br_f (by decide) ⟨pk_in p 24 (by omega), H1 (B p) k3 (Or.inr ⟨hx, rfl⟩)⟩
  · exact br_t rfl (H0 (fun o h => by unfold lc_ow at h; omega))
theorem lc_w_isUnset {post : Int32 → Prop} {p : Nat} (hP : lc_P n K A B a1 a2 a3) (hS : lc_S1 n K A B a4 a5 a6) (hp : p < n) (H : ∀ x, lc_B (lc_U n K A B p) x → post x) :
    wpX_isUnset post (c, st, g, qd, a1, a2, a3, a4, a5, a6, a7, a8, a9, a10, a11) (nI p) := by
  have hPP := hP
  obtain ⟨hw, hv⟩ := hP
  obtain ⟨e1, e2, e3⟩ := hv p hp
  obtain ⟨k1, k2, k3, k4⟩ := hw.2 p hp
  have hn := hw.1
  have hc : (nI p).toNatClampNeg = p := nI_clamp (by omega)
  unfold wpX_isUnset
  refine lc_w_ow hPP hp (fun hno => br_t rfl (H 0 (Or.inr ⟨rfl, fun ⟨o, z, _⟩ => hno o z⟩))) (fun o ho hk => br_f (lc_m1_ne (by omega)) ⟨pk_in p 24 (by omega), ?_⟩)
  rw [hc, e1]
  refine pk_eq (K p) 0 (fun z => H 0 (Or.inr ⟨rfl, fun ⟨_, _, y, _⟩ => y z⟩)) (fun z => ⟨pk_in p 24 (by omega), ?_⟩)
  have t := (lc_t1 (a6 p) o (by omega)).trans ((hS p hp).2.2.2 o (by omega))
  exact br_c (fun y => H 1 (Or.inl ⟨rfl, o, hk, z, t.mp y⟩)) (fun y => H 0 (Or.inr ⟨rfl, fun ⟨o', u1, _, u2⟩ => y (t.mpr (by rw [lc_ow_f hk u1]; exact u2))⟩))
theorem lc_w_isIdle {post : Int32 → Prop} {p : Nat} (hP : lc_P n K A B a1 a2 a3) (hS : lc_S1 n K A B a4 a5 a6) (hp : p < n) (H : ∀ x, lc_B (lc_I n K A B p) x → post x) :
    wpX_isIdle post (c, st, g, qd, a1, a2, a3, a4, a5, a6, a7, a8, a9, a10, a11) (nI p) := by
  obtain ⟨hw, hv⟩ := hP
  obtain ⟨e1, e2, e3⟩ := hv p hp
  obtain ⟨k1, k2, k3, k4⟩ := hw.2 p hp
  have hn := hw.1
  have hc : (nI p).toNatClampNeg = p := nI_clamp (by omega)
  unfold wpX_isIdle
  dsimp only
  rw [hc, e1, e2, lc_ix]
  refine ⟨pk_in p 24 (by omega), pk_eq (K p) 7 (fun z => ?_) (fun z => H 0 (Or.inr ⟨rfl, fun y => z y.1⟩))⟩
  have hA := k4 (by omega)
  rw [nI_clamp (show 4 * p + A p < 2 ^ 31 by omega)]
  have t := (lc_f0 (a5 (4 * p + A p))).trans (not_congr ((hS p hp).2.2.1 (A p) hA 24 (by omega)))
  exact ⟨pk_in p 24 (by omega), pk_in (4 * p + A p) 96 (by omega), br_c (fun y => H 0 (Or.inr ⟨rfl, fun u => t.mp y u.2⟩)) (fun y => H 1 (Or.inl ⟨rfl, z, Classical.byContradiction (fun u => y (t.mpr u))⟩))⟩
theorem lc_w_heldThrough {post : Int32 → Prop} {p : Nat} (hP : lc_P n K A B a1 a2 a3) (hp : p < n)
    (H : ∀ x, (∀ b, b < 32 → (lc_bt x b = true ↔ b < 24 ∧ ∃ r, r < 4 ∧ ¬ ((K p = 3 ∨ K p = 4) ∧ A p = r) ∧ lc_bt (a8 p) r = true ∧ lc_bt (a5 (4 * p + r)) b = true)) → post x) :
    wpX_heldThrough post (c, st, g, qd, a1, a2, a3, a4, a5, a6, a7, a8, a9, a10, a11) (nI p) := by
  have hPP := hP
  obtain ⟨hw, hv⟩ := hP
  obtain ⟨e1, e2, e3⟩ := hv p hp
  obtain ⟨k1, k2, k3, k4⟩ := hw.2 p hp
  have hn := hw.1
  have hc : (nI p).toNatClampNeg = p := nI_clamp (by omega)
  refine pk_loop (fun m i s => wX_heldThrough_4 post (nI p) c st g qd a1 a2 a3 a4 a5 a6 a7 a8 a9 a10 a11 m s (nI i))
    (fun i s => ∀ b, b < 32 → (lc_bt s b = true ↔ ∃ r, r < i ∧ ¬ ((K p = 3 ∨ K p = 4) ∧ A p = r) ∧ lc_bt (a8 p) r = true ∧ lc_bt (a5 (4 * p + r)) b = true)) 4 0 0 (by omega) (fun b _ => ⟨fun z => absurd z lc_0F, fun ⟨r, hr, _⟩ => absurd hr (by omega)⟩) ?_ ?_
  · intro m s hs
    refine pk_le 4 4 (fun _ => H _ (fun b hb => ?_)) (fun z => absurd z (by omega))
    rw [lc_andT, lc_MT hb, hs b hb]
    exact And.comm
  · intro m i s hi hs hw
    have skip : (((K p = 3 ∨ K p = 4) ∧ A p = i) ∨ ¬ lc_bt (a8 p) i = true) → wX_heldThrough_4 post (nI p) c st g qd a1 a2 a3 a4 a5 a6 a7 a8 a9 a10 a11 m s (nI (i + 1)) := fun z => hw s (fun b hb => (hs b hb).trans ⟨fun ⟨r, hr, u⟩ => ⟨r, by omega, u⟩, fun ⟨r, hr, u1, u2, u3⟩ => ⟨r, by
      by_cases e : r = i
      · subst e
        rcases z with z | z
        · exact absurd z u1
        · exact absurd u2 z
      · omega, u1, u2, u3⟩⟩)
    have b31 : ¬ ((K p = 3 ∨ K p = 4) ∧ A p = i) → wX_heldThrough_32 post (wX_heldThrough_4 post (nI p) c st g qd a1 a2 a3 a4 a5 a6 a7 a8 a9 a10 a11 m) (nI p) s (nI i) 0 c st g qd a1 a2 a3 a4 a5 a6 a7 a8 a9 a10 a11 := fun hk => by
      unfold wX_heldThrough_32
      rw [hc]
      refine br_t rfl ⟨pk_in p 24 (by omega), br_c (fun y => nm_r (nI_1 i) (skip (Or.inr ((lc_t0 _ i (by omega)).mp y)))) (fun y => ⟨pk_in (4 * p + i) 96 (by omega) (lc_ix p i), nm_r (by rw [lc_ix, nI_clamp (by omega)]) (nm_r (nI_1 i) (hw _ (fun b hb => ?_)))⟩)⟩
      have y' : lc_bt (a8 p) i = true := Classical.byContradiction (fun u => y ((lc_t0 _ i (by omega)).mpr u))
      rw [lc_orT, hs b hb]
      constructor
      · rintro (⟨r, hr, u⟩ | u)
        · exact ⟨r, by omega, u⟩
        · exact ⟨i, by omega, hk, y', u⟩
      · intro ⟨r, hr, u⟩
        by_cases e : r = i
        · rw [e] at u; exact Or.inr u.2.2
        · exact Or.inl ⟨r, by omega, u⟩
    refine pk_le 4 i (fun z => absurd z (by omega)) (fun _ => lc_w_ml hPP hp (fun x hx => ?_))
    rcases hx with ⟨rfl, hx⟩ | ⟨rfl, hx⟩
    · refine br_f (by decide) ⟨pk_in p 24 (by omega), ?_⟩
      rw [hc, e2]
      exact pk_eq (A p) i (fun z => br_f (by decide) (nm_r (nI_1 i) (skip (Or.inl ⟨hx, z⟩)))) (fun z => b31 (fun u => z u.2))
    · exact br_t rfl (b31 (fun u => hx u.1))
theorem lc_w_writes {post : Int32 → Prop} {p : Nat} (hP : lc_P n K A B a1 a2 a3) (hp : p < n) (H : ∀ x, lc_B (K p = 0 ∨ K p = 2 ∨ K p = 4) x → post x) :
    wpX_writes post (c, st, g, qd, a1, a2, a3, a4, a5, a6, a7, a8, a9, a10, a11) (nI p) := by
  obtain ⟨hw, hv⟩ := hP
  obtain ⟨e1, e2, e3⟩ := hv p hp
  obtain ⟨k1, k2, k3, k4⟩ := hw.2 p hp
  have hn := hw.1
  have hc : (nI p).toNatClampNeg = p := nI_clamp (by omega)
  unfold wpX_writes
  dsimp only
  rw [hc, e1]
  exact ⟨pk_in p 24 (by omega), pk_eq (K p) 0 (fun z => H 1 (Or.inl ⟨rfl, by omega⟩)) (fun z => ⟨pk_in p 24 (by omega), pk_eq (K p) 2 (fun y => H 1 (Or.inl ⟨rfl, by omega⟩)) (fun y => ⟨pk_in p 24 (by omega), pk_eq (K p) 4 (fun y => H 1 (Or.inl ⟨rfl, by omega⟩)) (fun y => H 0 (Or.inr ⟨rfl, by omega⟩))⟩)⟩)⟩
theorem lc_w_disturbs {post : Int32 → Prop} {p b : Nat} (hP : lc_P n K A B a1 a2 a3) (hp : p < n) (hb : b < n) (H : ∀ x, lc_B (lc_D K A B p b) x → post x) :
    wpX_disturbs post (c, st, g, qd, a1, a2, a3, a4, a5, a6, a7, a8, a9, a10, a11) (nI p) (nI b) := by
  have hPP := hP
  obtain ⟨hw, hv⟩ := hP
  obtain ⟨e1, e2, e3⟩ := hv b hb
  obtain ⟨k1, k2, k3, k4⟩ := hw.2 b hb
  have hn := hw.1
  have hc : (nI b).toNatClampNeg = b := nI_clamp (by omega)
  have no : ¬ lc_D K A B p b → wX_disturbs_35 post (nI p) (nI b) c st g qd a1 a2 a3 a4 a5 a6 a7 a8 a9 a10 a11 := fun h => br_t rfl (H 0 (Or.inr ⟨rfl, h⟩))
  unfold wpX_disturbs
  refine lc_w_ml hPP hb (fun x hx => ?_)
  rcases hx with ⟨rfl, hx⟩ | ⟨rfl, hx⟩
  · refine br_f (by decide) (lc_w_ow hPP hp (fun hno => br_t rfl (no (fun z => hno _ z.2.1))) (fun o ho hk => br_f (lc_m1_ne (by omega)) ?_))
    refine lc_w_ow hPP hp (fun hno => absurd hk (hno o)) (fun o' ho' hk' => ?_)
    have eo := lc_ow_f hk hk'
    subst eo
    refine ⟨pk_in b 24 (by omega), ?_⟩
    rw [hc, e3]
    refine pk_eq o (B b) (fun z => ?_) (fun z => no (fun y => z (lc_ow_f hk y.2.1)))
    subst z
    refine br_f (by decide) (lc_w_writes hPP hp (fun y hy => ?_))
    rcases hy with ⟨rfl, hy⟩ | ⟨rfl, hy⟩
    · exact br_f (by decide) (H 1 (Or.inl ⟨rfl, hx, hk, Or.inl hy⟩))
    · refine br_t rfl ⟨pk_in b 24 (by omega), ?_⟩
      rw [hc, e1]
      exact pk_eq (K b) 4 (fun u => H 1 (Or.inl ⟨rfl, hx, hk, Or.inr u⟩)) (fun u => H 0 (Or.inr ⟨rfl, fun v => v.2.2.elim hy u⟩))
  · exact br_t rfl (no (fun z => hx z.1))
def lc_CF (n : Nat) (K A B : Nat → Nat) (p : Nat) (x : Int32) : Prop := ∀ b, b < 32 → (lc_bt x b = true ↔ lc_C n K A B b p)
theorem lc_w_c24 {post : Int32 → Prop} {p : Nat} {x2 : Int32} (hP : lc_P n K A B a1 a2 a3) (hp : p < n)
    (hx : ∀ b, b < n → lc_D K A B p b → (lc_bt x2 b = true ↔ lc_C n K A B b p)) (H : ∀ x, lc_CF n K A B p x → post x) :
    ∃ fu, wX_conflictsAt_24 post (nI p) x2 (nI n) st g qd a1 a2 a3 a4 a5 a6 a7 a8 a9 a10 a11 fu 0 0 := by
  have hn := hP.1.1
  refine pk_loop (fun m i s => wX_conflictsAt_24 post (nI p) x2 (nI n) st g qd a1 a2 a3 a4 a5 a6 a7 a8 a9 a10 a11 m s (nI i))
    (fun i s => ∀ b, b < 32 → (lc_bt s b = true ↔ b < i ∧ lc_C n K A B b p)) n 0 0 (by omega) (fun b _ => ⟨fun z => absurd z lc_0F, fun z => absurd z.1 (by omega)⟩) ?_ ?_
  · intro m s hs
    exact pk_le n n (fun _ => H s (fun b hb => (hs b hb).trans ⟨fun z => z.2, fun z => ⟨z.1, z⟩⟩)) (fun z => absurd z (by omega))
  · intro m i s hi hs hw
    have no : ¬ lc_C n K A B i p → wX_conflictsAt_57 post (wX_conflictsAt_24 post (nI p) x2 (nI n) st g qd a1 a2 a3 a4 a5 a6 a7 a8 a9 a10 a11 m) (nI p) x2 s (nI i) (nI n) st g qd a1 a2 a3 a4 a5 a6 a7 a8 a9 a10 a11 := fun hk =>
      br_t rfl (nm_r (nI_1 i) (hw s (fun b hb => (hs b hb).trans ⟨fun z => ⟨by omega, z.2⟩, fun z => ⟨by
        by_cases e : b = i
        · rw [e] at z; exact absurd z.2 hk
        · omega, z.2⟩⟩)))
    refine pk_le n i (fun z => absurd z (by omega)) (fun _ => br_c (fun z => lc_w_disturbs hP hp hi (fun x hx' => ?_)) (fun z => no (fun y => z ((lc_t1 x2 i (by omega)).mpr ((hx i hi y.2.1).mpr y)))))
    rcases hx' with ⟨rfl, hd⟩ | ⟨rfl, hd⟩
    · refine br_f (by decide) (br_f (by decide) (nm_e (nm_r (nI_1 i) (hw _ (fun b hb => ?_)))))
      rw [lc_orT, hs b hb, lc_oneT i (by omega) hb]
      have hC : lc_C n K A B i p := (hx i hi hd).mp ((lc_t1 x2 i (by omega)).mp z)
      constructor
      · rintro (u | u)
        · exact ⟨by omega, u.2⟩
        · rw [u]; exact ⟨by omega, hC⟩
      · intro u
        by_cases e : b = i
        · exact Or.inr e
        · exact Or.inl ⟨by omega, u.2⟩
    · exact br_t rfl (no (fun y => hd y.2.1))
theorem lc_w_confAt {post : Int32 → Prop} {p : Nat} (hP : lc_P n K A B a1 a2 a3) (hS : lc_S1 n K A B a4 a5 a6) (hT : lc_S2 n K A B a7 a8) (hp : p < n) (H : ∀ x, lc_CF n K A B p x → post x) :
    wpX_conflictsAt post (nI n, st, g, qd, a1, a2, a3, a4, a5, a6, a7, a8, a9, a10, a11) (nI p) := by
  have hn := hP.1.1
  unfold wpX_conflictsAt
  refine lc_w_ow hP hp (fun hno => br_t rfl (lc_w_c24 hP hp (fun b _ hd => absurd hd.2.1 (hno _)) H)) (fun o ho hk => br_f (lc_m1_ne (by omega)) (lc_w_heldThrough hP hp (fun x hx => lc_w_c24 hP hp (fun b hb hd => ?_) H)))
  rw [hx b (by omega), lc_C_iff hP.1]
  constructor
  · rintro ⟨_, r, hr, u1, u2, u3⟩
    exact ⟨hb, hd, r, hr, ((hS p hp).2.2.1 r hr b (by omega)).mp u3, u1, ((hT p hp).2 r (by omega)).mp u2⟩
  · rintro ⟨_, _, r, hr, u1, u2, u3⟩
    exact ⟨by omega, r, hr, u2, ((hT p hp).2 r (by omega)).mpr u3, ((hS p hp).2.2.1 r hr b (by omega)).mpr u1⟩
theorem lc_CF_0 {p : Nat} {x : Int32} (w : lc_wf n K A B) (h : lc_CF n K A B p x) : ¬ x = 0 ↔ ∃ b, lc_C n K A B b p := by
  have hn := w.1
  rw [lc_ne0]
  constructor
  · rintro ⟨i, hi, z⟩; exact ⟨i, (h i hi).mp z⟩
  · rintro ⟨b, z⟩
    have := z.1
    exact ⟨b, by omega, (h b (by omega)).mpr z⟩
theorem lc_w_isFault {post : Int32 → Prop} {p : Nat} (hP : lc_P n K A B a1 a2 a3) (hS : lc_S1 n K A B a4 a5 a6) (hT : lc_S2 n K A B a7 a8) (hp : p < n) (H : ∀ x, lc_B (lc_F n K A B p) x → post x) :
    wpX_isFault post (nI n, st, g, qd, a1, a2, a3, a4, a5, a6, a7, a8, a9, a10, a11) (nI p) := by
  unfold wpX_isFault
  refine lc_w_isUnset hP hS hp (fun x hx => ?_)
  rcases hx with ⟨rfl, hx⟩ | ⟨rfl, hx⟩
  · exact br_f (by decide) (H 1 (Or.inl ⟨rfl, Or.inr (Or.inl hx)⟩))
  refine br_t rfl (lc_w_isIdle hP hS hp (fun y hy => ?_))
  rcases hy with ⟨rfl, hy⟩ | ⟨rfl, hy⟩
  · exact br_f (by decide) (H 1 (Or.inl ⟨rfl, Or.inr (Or.inr hy)⟩))
  refine br_t rfl (lc_w_confAt hP hS hT hp (fun z hz => br_c (fun u => H 0 (Or.inr ⟨rfl, ?_⟩)) (fun u => H 1 (Or.inl ⟨rfl, Or.inl ((lc_CF_0 hP.1 hz).mp u)⟩))))
  rintro (v | v | v)
  · exact (lc_CF_0 hP.1 hz).mpr v u
  · exact hx v
  · exact hy v
end
/-! the public questions -/
section
variable {n : Nat} {K A B : Nat → Nat}
theorem lc_w_bad {post : Int32 → Prop} {u : St1} {p : Nat} (h : lc_Ok n K A B u) (hp : p < n) (H : post 0) : wpX_badPoint post u (nI p) := by
  obtain ⟨c, st, g, qd, a1, a2, a3, a4, a5, a6, a7, a8, a9, a10, a11⟩ := u
  obtain ⟨rfl, hP, _⟩ := h
  have hn := hP.1.1
  exact br_f (nI_pos (by omega)) (br_t (nI_lt hp (by omega)) H)
theorem lc_w_badR {post : Int32 → Prop} {u : St1} {r : Nat} (hr : r < 4) (H : post 0) : wpX_badReference post u (nI r) := by
  obtain ⟨c, st, g, qd, a1, a2, a3, a4, a5, a6, a7, a8, a9, a10, a11⟩ := u
  exact br_f (nI_pos (by omega)) (br_t (nI_lt (b := 4) hr (by omega)) H)
theorem lc_w_points {post : Int32 → Prop} {u : St1} (h : lc_Ok n K A B u) (H : post (nI n)) : wpX_points post u := by
  obtain ⟨c, st, g, qd, a1, a2, a3, a4, a5, a6, a7, a8, a9, a10, a11⟩ := u
  obtain ⟨rfl, hP, _⟩ := h
  exact H
theorem lc_w_conflicts {post : Int32 → St1 → Prop} {u : St1} {p : Nat} (h : lc_Ok n K A B u) (hp : p < n) (H : ∀ x u', lc_CF n K A B p x → lc_O1 n K A B u' → post x u') : wpX_conflicts post u (nI p) := by
  obtain ⟨c, st, g, qd, a1, a2, a3, a4, a5, a6, a7, a8, a9, a10, a11⟩ := u
  unfold wpX_conflicts
  refine lc_w_bad h hp (br_t rfl (lc_w_study h (fun u' k => ?_)))
  obtain ⟨c, st, g, qd, a1, a2, a3, a4, a5, a6, a7, a8, a9, a10, a11⟩ := u'
  have kk := k
  obtain ⟨rfl, hP, rfl, h1, h2⟩ := k
  exact lc_w_confAt hP h1 h2 hp (fun x hx => H x _ hx kk)
theorem lc_w_reached {post : Int32 → St1 → Prop} {u : St1} {p : Nat} (h : lc_Ok n K A B u) (hp : p < n) (H : ∀ x u', lc_B (lc_R n K A p) x → lc_O1 n K A B u' → post x u') : wpX_reached post u (nI p) := by
  obtain ⟨c, st, g, qd, a1, a2, a3, a4, a5, a6, a7, a8, a9, a10, a11⟩ := u
  unfold wpX_reached
  refine lc_w_bad h hp (br_t rfl (lc_w_study h (fun u' k => ?_)))
  obtain ⟨c, st, g, qd, a1, a2, a3, a4, a5, a6, a7, a8, a9, a10, a11⟩ := u'
  have kk := k
  obtain ⟨rfl, hP, rfl, h1, h2⟩ := k
  have hn := hP.1.1
  dsimp only
  rw [nI_clamp (show p < 2 ^ 31 by omega)]
  have t : lc_B (lc_R n K A p) (a4 p) := by
    obtain ⟨t1, t2, _⟩ := h1 p hp
    rcases t1 with t1 | t1
    · exact Or.inr ⟨t1, fun z => t2.mpr z t1⟩
    · exact Or.inl ⟨t1, t2.mp (by rw [t1]; decide)⟩
  exact ⟨pk_in p 24 (by omega), lc_B_n t, H _ _ t kk⟩
theorem lc_w_unset {post : Int32 → St1 → Prop} {u : St1} {p : Nat} (h : lc_Ok n K A B u) (hp : p < n) (H : ∀ x u', lc_B (lc_U n K A B p) x → lc_O1 n K A B u' → post x u') : wpX_unset post u (nI p) := by
  obtain ⟨c, st, g, qd, a1, a2, a3, a4, a5, a6, a7, a8, a9, a10, a11⟩ := u
  unfold wpX_unset
  refine lc_w_bad h hp (br_t rfl (lc_w_study h (fun u' k => ?_)))
  obtain ⟨c, st, g, qd, a1, a2, a3, a4, a5, a6, a7, a8, a9, a10, a11⟩ := u'
  have kk := k
  obtain ⟨rfl, hP, rfl, h1, h2⟩ := k
  exact lc_w_isUnset hP h1 hp (fun x hx => ⟨lc_B_n hx, H x _ hx kk⟩)
theorem lc_w_idle {post : Int32 → St1 → Prop} {u : St1} {p : Nat} (h : lc_Ok n K A B u) (hp : p < n) (H : ∀ x u', lc_B (lc_I n K A B p) x → lc_O1 n K A B u' → post x u') : wpX_idle post u (nI p) := by
  obtain ⟨c, st, g, qd, a1, a2, a3, a4, a5, a6, a7, a8, a9, a10, a11⟩ := u
  unfold wpX_idle
  refine lc_w_bad h hp (br_t rfl (lc_w_study h (fun u' k => ?_)))
  obtain ⟨c, st, g, qd, a1, a2, a3, a4, a5, a6, a7, a8, a9, a10, a11⟩ := u'
  have kk := k
  obtain ⟨rfl, hP, rfl, h1, h2⟩ := k
  exact lc_w_isIdle hP h1 hp (fun x hx => ⟨lc_B_n hx, H x _ hx kk⟩)
theorem lc_w_holds {post : Int32 → St1 → Prop} {u : St1} {p r : Nat} (h : lc_Ok n K A B u) (hp : p < n) (hr : r < 4) (H : ∀ x u', (∀ b, b < 32 → (lc_bt x b = true ↔ b < 24 ∧ lc_H n K A B b p r)) → lc_O1 n K A B u' → post x u') : wpX_holds post u (nI p) (nI r) := by
  obtain ⟨c, st, g, qd, a1, a2, a3, a4, a5, a6, a7, a8, a9, a10, a11⟩ := u
  unfold wpX_holds
  refine lc_w_bad h hp (br_t rfl (lc_w_badR hr (br_t rfl (lc_w_study h (fun u' k => ?_)))))
  obtain ⟨c, st, g, qd, a1, a2, a3, a4, a5, a6, a7, a8, a9, a10, a11⟩ := u'
  have kk := k
  obtain ⟨rfl, hP, rfl, h1, h2⟩ := k
  have hn := hP.1.1
  dsimp only
  rw [lc_ix, nI_clamp (show 4 * p + r < 2 ^ 31 by omega)]
  refine ⟨pk_in (4 * p + r) 96 (by omega), H _ _ (fun b hb => ?_) kk⟩
  rw [lc_andT, lc_MT hb, (h1 p hp).2.2.1 r hr b hb]
  exact And.comm
theorem lc_w_free {post : Int32 → St1 → Prop} {u : St1} {p r : Nat} (h : lc_Ok n K A B u) (hp : p < n) (hr : r < 4) (H : ∀ x u', lc_B (lc_H n K A B 24 p r) x → lc_O1 n K A B u' → post x u') : wpX_free post u (nI p) (nI r) := by
  obtain ⟨c, st, g, qd, a1, a2, a3, a4, a5, a6, a7, a8, a9, a10, a11⟩ := u
  unfold wpX_free
  refine lc_w_bad h hp (br_t rfl (lc_w_badR hr (br_t rfl (lc_w_study h (fun u' k => ?_)))))
  obtain ⟨c, st, g, qd, a1, a2, a3, a4, a5, a6, a7, a8, a9, a10, a11⟩ := u'
  have kk := k
  obtain ⟨rfl, hP, rfl, h1, h2⟩ := k
  have hn := hP.1.1
  dsimp only
  rw [lc_ix, nI_clamp (show 4 * p + r < 2 ^ 31 by omega)]
  have t := (lc_f0 (a5 (4 * p + r))).trans (not_congr ((h1 p hp).2.2.1 r hr 24 (by omega)))
  exact ⟨pk_in (4 * p + r) 96 (by omega), br_c (fun z => H _ _ (Or.inr ⟨rfl, t.mp z⟩) kk) (fun z => H _ _ (Or.inl ⟨rfl, Classical.byContradiction (fun y => z (t.mpr y))⟩) kk)⟩
theorem lc_w_wanted {post : Int32 → St1 → Prop} {u : St1} {p r : Nat} (h : lc_Ok n K A B u) (hp : p < n) (hr : r < 4) (H : ∀ x u', lc_B (lc_R n K A p ∧ lc_W n K A B p r) x → lc_O1 n K A B u' → post x u') : wpX_wanted post u (nI p) (nI r) := by
  obtain ⟨c, st, g, qd, a1, a2, a3, a4, a5, a6, a7, a8, a9, a10, a11⟩ := u
  unfold wpX_wanted
  refine lc_w_bad h hp (br_t rfl (lc_w_badR hr (br_t rfl (lc_w_study h (fun u' k => ?_)))))
  obtain ⟨c, st, g, qd, a1, a2, a3, a4, a5, a6, a7, a8, a9, a10, a11⟩ := u'
  have kk := k
  obtain ⟨rfl, hP, rfl, h1, h2⟩ := k
  have hn := hP.1.1
  dsimp only
  rw [nI_clamp (show p < 2 ^ 31 by omega)]
  have t := (lc_t1 (a7 p) r (by omega)).trans ((h2 p hp).1 r (by omega))
  have t2 := (h1 p hp).2.1
  exact ⟨pk_in p 24 (by omega), br_c (fun z => H _ _ (Or.inr ⟨rfl, fun y => t2.mpr y.1 z⟩) kk) (fun z => ⟨pk_in p 24 (by omega), br_c (fun y => H _ _ (Or.inl ⟨rfl, t2.mp z, t.mp y⟩) kk) (fun y => H _ _ (Or.inr ⟨rfl, fun v => y (t.mpr v.2)⟩) kk)⟩)⟩
theorem lc_w_faults {post : Int32 → St1 → Prop} {u : St1} (h : lc_Ok n K A B u) (H : ∀ u', lc_O1 n K A B u' → post (nI (lc_cn (lc_F n K A B) n)) u') : wpX_faults post u := by
  obtain ⟨c, st, g, qd, a1, a2, a3, a4, a5, a6, a7, a8, a9, a10, a11⟩ := u
  unfold wpX_faults
  refine lc_w_study h (fun u' k => ?_)
  obtain ⟨c, st, g, qd, a1, a2, a3, a4, a5, a6, a7, a8, a9, a10, a11⟩ := u'
  have kk := k
  obtain ⟨rfl, hP, rfl, h1, h2⟩ := k
  have hn := hP.1.1
  refine pk_loop (fun m i s => wX_faults_8 post (nI n) 1 g qd a1 a2 a3 a4 a5 a6 a7 a8 a9 a10 a11 m s (nI i)) (fun i s => s = nI (lc_cn (lc_F n K A B) i)) n 0 0 (by omega) rfl ?_ ?_
  · intro m s hs
    subst hs
    exact pk_le n n (fun _ => H _ kk) (fun z => absurd z (by omega))
  · intro m i s hi hs hw
    subst hs
    refine pk_le n i (fun z => absurd z (by omega)) (fun _ => lc_w_isFault hP h1 h2 hi (fun x hx => ?_))
    rcases hx with ⟨rfl, hx⟩ | ⟨rfl, hx⟩
    · exact br_f (by decide) (nm_r (nI_1 _) (nm_r (nI_1 i) (hw _ (by rw [lc_cn_t hx]))))
    · exact br_t rfl (nm_r (nI_1 i) (hw _ (by rw [lc_cn_f hx])))
/-- the first fault, or -3 -/
def lc_ff (F : Nat → Prop) (n : Nat) (x : Int32) : Prop := (x = -3 ∧ ∀ j, j < n → ¬ F j) ∨ ∃ j, j < n ∧ F j ∧ (∀ i, i < j → ¬ F i) ∧ x = nI j
theorem lc_ff_u {F : Nat → Prop} {n : Nat} {x y : Int32} (h : lc_ff F n x) (k : lc_ff F n y) : x = y := by
  rcases h with ⟨rfl, h⟩ | ⟨j, h1, h2, h3, rfl⟩ <;> rcases k with ⟨rfl, k⟩ | ⟨i, k1, k2, k3, rfl⟩
  · rfl
  · exact absurd k2 (h i k1)
  · exact absurd h2 (k j h1)
  · rcases Nat.lt_trichotomy i j with z | z | z
    · exact absurd k2 (h3 i z)
    · rw [z]
    · exact absurd h2 (k3 j z)
theorem lc_w_firstFault {post : Int32 → St1 → Prop} {u : St1} (h : lc_Ok n K A B u) (H : ∀ x u', lc_ff (lc_F n K A B) n x → lc_O1 n K A B u' → post x u') : wpX_firstFault post u := by
  obtain ⟨c, st, g, qd, a1, a2, a3, a4, a5, a6, a7, a8, a9, a10, a11⟩ := u
  unfold wpX_firstFault
  refine lc_w_study h (fun u' k => ?_)
  obtain ⟨c, st, g, qd, a1, a2, a3, a4, a5, a6, a7, a8, a9, a10, a11⟩ := u'
  have kk := k
  obtain ⟨rfl, hP, rfl, h1, h2⟩ := k
  have hn := hP.1.1
  refine pk_loop (σ := Unit) (fun m i _ => wX_firstFault_6 post (nI n) 1 g qd a1 a2 a3 a4 a5 a6 a7 a8 a9 a10 a11 m (nI i)) (fun i _ => ∀ j, j < i → ¬ lc_F n K A B j) n 0 () (by omega) (fun j hj => absurd hj (by omega)) ?_ ?_
  · intro m _ hs
    exact pk_le n n (fun _ => H _ _ (Or.inl ⟨rfl, hs⟩) kk) (fun z => absurd z (by omega))
  · intro m i _ hi hs hw
    refine pk_le n i (fun z => absurd z (by omega)) (fun _ => lc_w_isFault hP h1 h2 hi (fun x hx => ?_))
    rcases hx with ⟨rfl, hx⟩ | ⟨rfl, hx⟩
    · exact br_f (by decide) (H _ _ (Or.inr ⟨i, hi, hx, hs, rfl⟩) kk)
    · refine br_t rfl (nm_r (nI_1 i) (hw () (fun j hj => ?_)))
      by_cases e : j = i
      · rw [e]; exact hx
      · exact hs j (by omega)
def lc_A (n : Nat) (K A B : Nat → Nat) (b : Nat) : Prop := ∃ p, p < n ∧ lc_C n K A B b p
theorem lc_w_broken {post : Int32 → St1 → Prop} {u : St1} (h : lc_Ok n K A B u) (H : ∀ u', lc_O1 n K A B u' → post (nI (lc_cn (lc_A n K A B) n)) u') : wpX_broken post u := by
  obtain ⟨c, st, g, qd, a1, a2, a3, a4, a5, a6, a7, a8, a9, a10, a11⟩ := u
  unfold wpX_broken
  refine lc_w_study h (fun u' k => ?_)
  obtain ⟨c, st, g, qd, a1, a2, a3, a4, a5, a6, a7, a8, a9, a10, a11⟩ := u'
  have kk := k
  obtain ⟨rfl, hP, rfl, h1, h2⟩ := k
  have hn := hP.1.1
  refine pk_loop (fun m i s => wX_broken_8 post (nI n) 1 g qd a1 a2 a3 a4 a5 a6 a7 a8 a9 a10 a11 m s (nI i)) (fun i s => ∀ b, b < 32 → (lc_bt s b = true ↔ ∃ p, p < i ∧ lc_C n K A B b p)) n 0 0 (by omega) (fun b _ => ⟨fun z => absurd z lc_0F, fun ⟨p, z, _⟩ => absurd z (by omega)⟩) ?_ ?_
  · intro m all hs
    refine pk_le n n (fun _ => ?_) (fun z => absurd z (by omega))
    refine pk_loop (fun m i s => wX_broken_36 post all (nI n) 1 g qd a1 a2 a3 a4 a5 a6 a7 a8 a9 a10 a11 m s (nI i)) (fun i s => s = nI (lc_cn (lc_A n K A B) i)) n 0 0 (by omega) rfl ?_ ?_
    · intro m s e
      subst e
      exact pk_le n n (fun _ => H _ kk) (fun z => absurd z (by omega))
    · intro m i s hi e hw
      subst e
      refine pk_le n i (fun z => absurd z (by omega)) (fun _ => nm_r ?_ (nm_r (nI_1 i) (hw _ rfl)))
      rw [lc_val all i (by omega), nI_add]
      have t : lc_bt all i = true ↔ lc_A n K A B i := hs i (by omega)
      rcases Classical.em (lc_A n K A B i) with z | z
      · rw [if_pos (t.mpr z), lc_cn_t z]
      · rw [if_neg (fun y => z (t.mp y)), lc_cn_f z]; rfl
  · intro m i s hi hs hw
    refine pk_le n i (fun z => absurd z (by omega)) (fun _ => lc_w_confAt hP h1 h2 hi (fun x hx => nm_e (nm_r (nI_1 i) (hw _ (fun b hb => ?_)))))
    rw [lc_orT, hs b hb, hx b hb]
    constructor
    · rintro (⟨p, hp, z⟩ | z)
      · exact ⟨p, by omega, z⟩
      · exact ⟨i, by omega, z⟩
    · rintro ⟨p, hp, z⟩
      by_cases e : p = i
      · rw [e] at z; exact Or.inr z
      · exact Or.inl ⟨p, by omega, z⟩
theorem lc_w_span {post : Int32 → St1 → Prop} {u : St1} {b : Nat} (h : lc_Ok n K A B u) (hb : b < n) (H : ∀ x u', (∀ p, p < 32 → (lc_bt x p = true ↔ p < n ∧ ∃ r, r < 4 ∧ lc_W n K A B p r ∧ lc_H n K A B b p r)) → lc_O1 n K A B u' → post x u') : wpX_span post u (nI b) := by
  obtain ⟨c, st, g, qd, a1, a2, a3, a4, a5, a6, a7, a8, a9, a10, a11⟩ := u
  unfold wpX_span
  refine lc_w_bad h hb (br_t rfl (lc_w_study h (fun u' k => ?_)))
  obtain ⟨c, st, g, qd, a1, a2, a3, a4, a5, a6, a7, a8, a9, a10, a11⟩ := u'
  have kk := k
  obtain ⟨rfl, hP, rfl, h1, h2⟩ := k
  have hn := hP.1.1
  refine pk_loop (fun m i s => wX_span_18 post (nI b) (nI n) 1 g qd a1 a2 a3 a4 a5 a6 a7 a8 a9 a10 a11 m s (nI i)) (fun i s => ∀ p, p < 32 → (lc_bt s p = true ↔ p < i ∧ ∃ r, r < 4 ∧ lc_W n K A B p r ∧ lc_H n K A B b p r)) n 0 0 (by omega) (fun p _ => ⟨fun z => absurd z lc_0F, fun z => absurd z.1 (by omega)⟩) ?_ ?_
  · intro m s hs
    exact pk_le n n (fun _ => H s _ hs kk) (fun z => absurd z (by omega))
  · intro m i s hi hs hw
    refine pk_le n i (fun z => absurd z (by omega)) (fun _ => ?_)
    refine pk_loop (fun m' r v => wX_span_32 post (wX_span_18 post (nI b) (nI n) 1 g qd a1 a2 a3 a4 a5 a6 a7 a8 a9 a10 a11 m) (nI b) s (nI i) (nI n) 1 g qd a1 a2 a3 a4 a5 a6 a7 a8 a9 a10 a11 m' v (nI r))
      (fun r0 v => ∀ bb, bb < 32 → (lc_bt v bb = true ↔ ∃ r, r < r0 ∧ lc_W n K A B i r ∧ lc_H n K A B bb i r)) 4 0 0 (by omega) (fun bb _ => ⟨fun z => absurd z lc_0F, fun ⟨r, hr, _⟩ => absurd hr (by omega)⟩) ?_ ?_
    · intro m' v hv
      refine pk_le 4 4 (fun _ => br_c (fun z => nm_e (nm_r (nI_1 i) (hw _ (fun p hp => ?_)))) (fun z => nm_r (nI_1 i) (hw _ (fun p hp => ?_)))) (fun z => absurd z (by omega))
      · have z' := (hv b (by omega)).mp ((lc_t1 v b (by omega)).mp z)
        rw [lc_orT, hs p hp, lc_oneT i (by omega) hp]
        constructor
        · rintro (y | y)
          · exact ⟨by omega, y.2⟩
          · rw [y]; exact ⟨by omega, z'⟩
        · intro y
          by_cases e : p = i
          · exact Or.inr e
          · exact Or.inl ⟨by omega, y.2⟩
      · have z' : ¬ ∃ r, r < 4 ∧ lc_W n K A B i r ∧ lc_H n K A B b i r := fun y => z ((lc_t1 v b (by omega)).mpr ((hv b (by omega)).mpr y))
        rw [hs p hp]
        constructor
        · intro y; exact ⟨by omega, y.2⟩
        · intro y
          by_cases e : p = i
          · rw [e] at y; exact absurd y.2 z'
          · exact ⟨by omega, y.2⟩
    · intro m' r v hr hv hw'
      have t := (lc_t1 (a7 i) r (by omega)).trans ((h2 i hi).1 r (by omega))
      refine pk_le 4 r (fun z => absurd z (by omega)) (fun _ => ⟨pk_in i 24 (by omega), ?_⟩)
      rw [nI_clamp (show i < 2 ^ 31 by omega)]
      refine br_c (fun z => ⟨pk_in (4 * i + r) 96 (by omega) (lc_ix i r), nm_r (by rw [lc_ix, nI_clamp (by omega)]) (nm_r (nI_1 r) (hw' _ (fun bb hbb => ?_)))⟩) (fun z => nm_r (nI_1 r) (hw' _ (fun bb hbb => ?_)))
      · rw [lc_orT, hv bb hbb, (h1 i hi).2.2.1 r hr bb hbb]
        constructor
        · rintro (⟨r0, k1, k2⟩ | y)
          · exact ⟨r0, by omega, k2⟩
          · exact ⟨r, by omega, t.mp z, y⟩
        · rintro ⟨r0, k1, k2⟩
          by_cases e : r0 = r
          · rw [e] at k2; exact Or.inr k2.2
          · exact Or.inl ⟨r0, by omega, k2⟩
      · rw [hv bb hbb]
        constructor
        · rintro ⟨r0, k1, k2⟩; exact ⟨r0, by omega, k2⟩
        · rintro ⟨r0, k1, k2⟩
          by_cases e : r0 = r
          · rw [e] at k2; exact absurd (t.mpr k2.1) z
          · exact ⟨r0, by omega, k2⟩
end
end
section
/-! shortest paths: shown -/
theorem lc_ix24 (z r q : Nat) : nI z + (24 : Int32) * nI r + nI q = nI (z + 24 * r + q) := by
  show nI z + nI 24 * nI r + nI q = _
  rw [pk_mul, nI_add, nI_add]
def lc_sem (n : Nat) (K A B : Nat → Nat) (b t s : Nat) : Prop := (∀ q, q < 24 → s = q → lc_R n K A q) ∧ (∀ r q, r < 4 → q < 24 → s = 24 + 24 * r + q → lc_H n K A B b q r) ∧ (∀ r q, r < 4 → q < 24 → s = 120 + 24 * r + q → q < n ∧ (lc_W n K A B q r → lc_Cf n K A B b t))
def lc_bi (n : Nat) (K A B : Nat → Nat) (b t k : Nat) (a10 a11 : Nat → Int32) : Prop := k ≤ 216 ∧ lc_cn (fun s => a10 s ≠ -1) 216 = k ∧
  (∀ s, s < 216 → a10 s ≠ -1 → (∃ d, a10 s = nI d ∧ 1 ≤ d ∧ d ≤ k ∧ (24 ≤ s → 2 ≤ d) ∧ (120 ≤ s → 3 ≤ d)) ∧ lc_sem n K A B b t s ∧ ∃ j, j < k ∧ a11 j = nI s) ∧
  (∀ j, j < k → ∃ s, s < 216 ∧ a11 j = nI s ∧ a10 s ≠ -1)
def lc_xt (k : Nat) (a10 a11 : Nat → Int32) (k' : Nat) (a10' a11' : Nat → Int32) : Prop := k ≤ k' ∧ (∀ x, a10 x ≠ -1 → a10' x = a10 x) ∧ (∀ j, j < k → a11' j = a11 j)
theorem lc_xt_r (k : Nat) (a10 a11 : Nat → Int32) : lc_xt k a10 a11 k a10 a11 := ⟨Nat.le_refl k, fun _ _ => rfl, fun _ _ => rfl⟩
theorem lc_xt_v {k k' : Nat} {a10 a11 a10' a11' : Nat → Int32} (h : lc_xt k a10 a11 k' a10' a11') {x : Nat} (hx : a10 x ≠ -1) : a10' x ≠ -1 := by rw [h.2.1 x hx]; exact hx
theorem lc_xt_t {k k' k2 : Nat} {a10 a11 a10' a11' b10 b11 : Nat → Int32} (h : lc_xt k a10 a11 k' a10' a11') (h' : lc_xt k' a10' a11' k2 b10 b11) : lc_xt k a10 a11 k2 b10 b11 :=
  ⟨Nat.le_trans h.1 h'.1, fun x hx => (h'.2.1 x (lc_xt_v h hx)).trans (h.2.1 x hx), fun j hj => (h'.2.2 j (Nat.lt_of_lt_of_le hj h.1)).trans (h.2.2 j hj)⟩
section
variable {n : Nat} {K A B : Nat → Nat} {b t : Nat}
theorem lc_sem_p {q : Nat} (hq : q < 24) (h : lc_R n K A q) : lc_sem n K A B b t q :=
  ⟨fun q' _ e => by rw [← e]; exact h, fun r q' _ _ e => by omega, fun r q' _ _ e => by omega⟩
theorem lc_sem_h {r q : Nat} (hr : r < 4) (hq : q < 24) (h : lc_H n K A B b q r) : lc_sem n K A B b t (24 + 24 * r + q) :=
  ⟨fun q' h1 e => by omega, fun r' q' h1 h2 e => by
    have e1 : r' = r := by omega
    have e2 : q' = q := by omega
    rw [e1, e2]; exact h, fun r' q' _ _ e => by omega⟩
theorem lc_sem_a {r q : Nat} (hr : r < 4) (hq : q < 24) (hn : q < n) (h : lc_W n K A B q r → lc_Cf n K A B b t) : lc_sem n K A B b t (120 + 24 * r + q) :=
  ⟨fun q' h1 e => by omega, fun r' q' h1 h2 e => by omega, fun r' q' _ _ e => by
    have e1 : r' = r := by omega
    have e2 : q' = q := by omega
    rw [e1, e2]; exact ⟨hn, h⟩⟩
variable {c st g : Int32} {a1 a2 a3 a4 a5 a6 a7 a8 a9 a10 a11 : Nat → Int32}
theorem lc_w_reach {post : St1 → Prop} {s d k : Nat} (hI : lc_bi n K A B b t k a10 a11) (hs : s < 216) (hd : 1 ≤ d) (hdk : d ≤ k + 1) (h24 : 24 ≤ s → 2 ≤ d) (h120 : 120 ≤ s → 3 ≤ d) (hm : lc_sem n K A B b t s)
    (H : ∀ k' a10' a11', lc_bi n K A B b t k' a10' a11' → lc_xt k a10 a11 k' a10' a11' → a10' s ≠ -1 → post (c, st, g, nI k', a1, a2, a3, a4, a5, a6, a7, a8, a9, a10', a11')) :
    wpX_reach post (c, st, g, nI k, a1, a2, a3, a4, a5, a6, a7, a8, a9, a10, a11) (nI s) (nI d) := by
  have hII := hI
  obtain ⟨hk, hc, hv, hq⟩ := hI
  have hcs : (nI s).toNatClampNeg = s := nI_clamp (by omega)
  unfold wpX_reach
  dsimp only
  rw [hcs]
  refine ⟨pk_in s 216 hs, br_c (fun z => ?_) (fun z => H k a10 a11 hII (lc_xt_r _ _ _) z)⟩
  have hk' : k < 216 := by
    rw [← hc]
    exact lc_cn_full ⟨s, hs, fun y => y z⟩
  have hdn : nI d ≠ -1 := lc_m1_ne (by omega)
  refine ⟨pk_in s 216 hs, nm_e ⟨pk_in k 216 hk', nm_r (e' := upd a11 k (nI s)) (by rw [nI_clamp (by omega)]) (nm_r (nI_1 k) (H (k + 1) _ _ ⟨by omega, ?_, fun x hx hxv => ?_, fun j hj => ?_⟩ ⟨by omega, fun x hx => ?_, fun j hj => ?_⟩ (by rw [pk_us]; exact hdn)))⟩⟩
  · rw [← hc]
    refine lc_cn_ins hs (fun y => y z) (by rw [pk_us]; exact hdn) (fun i _ hi => ?_)
    rw [pk_un hi]
  · by_cases e : x = s
    · subst e
      rw [pk_us]
      exact ⟨⟨d, rfl, hd, hdk, h24, h120⟩, hm, k, by omega, pk_us⟩
    · rw [pk_un e] at hxv ⊢
      obtain ⟨⟨d', y1, y2, y3, y4⟩, y5, j, y6, y7⟩ := hv x hx hxv
      exact ⟨⟨d', y1, y2, by omega, y4⟩, y5, j, by omega, by rw [pk_un (by omega)]; exact y7⟩
  · by_cases e : j = k
    · subst e
      exact ⟨s, hs, pk_us, by rw [pk_us]; exact hdn⟩
    · obtain ⟨x, y1, y2, y3⟩ := hq j (by omega)
      refine ⟨x, y1, by rw [pk_un e]; exact y2, ?_⟩
      by_cases ex : x = s
      · rw [ex, pk_us]; exact hdn
      · rw [pk_un ex]; exact y3
  · rw [pk_un (fun e => hx (by rw [e]; exact z))]
  · rw [pk_un (by omega)]
theorem lc_w_stepBefore {post : St1 → Prop} {p k : Nat} (hP : lc_P n K A B a1 a2 a3) (hp : p < n) (hb : b < n) (hkb : K b = 3 ∨ K b = 4) (hI : lc_bi n K A B b t k a10 a11) (hv : a10 p ≠ -1)
    (H : ∀ k' a10' a11', lc_bi n K A B b t k' a10' a11' → lc_xt k a10 a11 k' a10' a11' → (∀ i q, lc_E n K A p i q → a10' q ≠ -1 ∧ (p = b → a10' (24 + 24 * A b + q) ≠ -1)) → post (nI n, st, g, nI k', a1, a2, a3, a4, a5, a6, a7, a8, a9, a10', a11')) :
    wpX_stepBefore post (nI n, st, g, nI k, a1, a2, a3, a4, a5, a6, a7, a8, a9, a10, a11) (nI p) (nI b) := by
  have hn := hP.1.1
  obtain ⟨⟨d, e10, d1, d2, _, _⟩, hsem, _⟩ := hI.2.2.1 p (by omega) hv
  have hR : lc_R n K A p := hsem.1 p (by omega) rfl
  have hAb := (hP.1.2 b hb).2.2.2 (by omega)
  have hk := hI.1
  unfold wpX_stepBefore
  refine ⟨pk_in p 216 (by omega), nm_r (e' := nI (d + 1)) (by rw [nI_clamp (by omega), e10, nI_1]) ?_⟩
  refine pk_loop (fun m i s => wX_stepBefore_12 post (nI p) (nI b) (nI (d + 1)) m (nI i) (nI n) st g (nI s.1) a1 a2 a3 a4 a5 a6 a7 a8 a9 s.2.1 s.2.2)
    (fun i s => lc_bi n K A B b t s.1 s.2.1 s.2.2 ∧ lc_xt k a10 a11 s.1 s.2.1 s.2.2 ∧ ∀ j q, j < i → lc_E n K A p j q → s.2.1 q ≠ -1 ∧ (p = b → s.2.1 (24 + 24 * A b + q) ≠ -1)) 2 0 (k, a10, a11) (by omega) ⟨hI, lc_xt_r _ _ _, fun j q hj => absurd hj (by omega)⟩ ?_ ?_
  · rintro m ⟨k1, s10, s11⟩ ⟨h1, h2, h3⟩
    dsimp only at h1 h2 h3 ⊢
    exact pk_le 2 2 (fun _ => H k1 s10 s11 h1 h2 (fun i q e => h3 i q (lc_E_i e) e)) (fun z => absurd z (by omega))
  · rintro m i ⟨k1, s10, s11⟩ hi ⟨h1, h2, h3⟩ hw
    dsimp only at h1 h2 h3 hw ⊢
    have hk1 := h2.1
    refine pk_le 2 i (fun z => absurd z (by omega)) (fun _ => lc_w_behind hP hp hi (fun hno => br_t rfl (nm_r (nI_1 i) (hw (k1, s10, s11) ⟨h1, h2, fun j q hj e => ?_⟩))) (fun q hq => br_f (lc_m1_ne (by have := hq.2.1; omega)) ?_))
    · by_cases ej : j = i
      · rw [ej] at e; exact absurd e (hno q)
      · exact h3 j q (by omega) e
    · have hq24 : q < n := hq.2.1
      refine lc_w_reach h1 (by omega) (by omega) (by omega) (fun y => by omega) (fun y => by omega) (lc_sem_p (by omega) (lc_R_s hR hq)) (fun k2 t10 t11 g1 g2 g3 => ?_)
      refine pk_eq p b (fun z => ⟨pk_in b 24 (by omega), ?_⟩) (fun z => nm_r (nI_1 i) (hw (k2, t10, t11) ⟨g1, lc_xt_t h2 g2, fun j q' hj e => ?_⟩))
      · rw [nI_clamp (show b < 2 ^ 31 by omega), (hP.2 b hb).2.1]
        have hk2 := g2.1
        show wpX_reach _ _ (nI 24 + 24 * nI (A b) + nI q) _
        rw [lc_ix24]
        refine lc_w_reach g1 (by omega) (by omega) (by omega) (fun y => by omega) (fun y => by omega) (lc_sem_h hAb (by omega) (lc_H_g hR (Or.inl ⟨z.symm, by omega, by rw [z]; exact hkb, by rw [z]⟩) hq)) (fun k3 u10 u11 f1 f2 f3 => nm_r (nI_1 i) (hw (k3, u10, u11) ⟨f1, lc_xt_t (lc_xt_t h2 g2) f2, fun j q' hj e => ?_⟩))
        dsimp only
        by_cases ej : j = i
        · rw [ej] at e
          rw [← lc_E_f hq e]
          exact ⟨lc_xt_v f2 g3, fun _ => f3⟩
        · obtain ⟨y1, y2⟩ := h3 j q' (by omega) e
          exact ⟨lc_xt_v f2 (lc_xt_v g2 y1), fun v => lc_xt_v f2 (lc_xt_v g2 (y2 v))⟩
      · dsimp only
        by_cases ej : j = i
        · rw [ej] at e
          rw [← lc_E_f hq e]
          exact ⟨g3, fun v => absurd v z⟩
        · obtain ⟨y1, y2⟩ := h3 j q' (by omega) e
          exact ⟨lc_xt_v g2 y1, fun v => lc_xt_v g2 (y2 v)⟩
theorem lc_w_holders {post : Int32 → Prop} {p r : Nat} {qd : Int32} (hP : lc_P n K A B a1 a2 a3) (hp : p < n) (hr : r < 4)
    (H : ∀ x, (∀ r', r' < 32 → (lc_bt x r' = true ↔ lc_hd K A B p r r')) → post x) :
    wpX_holdersAfter post (c, st, g, qd, a1, a2, a3, a4, a5, a6, a7, a8, a9, a10, a11) (nI p) (nI r) := by
  obtain ⟨hw, hv⟩ := hP
  obtain ⟨e1, e2, e3⟩ := hv p hp
  obtain ⟨k1, k2, k3, k4⟩ := hw.2 p hp
  have hn := hw.1
  have hc : (nI p).toNatClampNeg = p := nI_clamp (by omega)
  have keep : (∀ r', lc_hd K A B p r r' ↔ r' = r) → post ((1 : Int32) <<< (nI r &&& 31)) := fun hk => H _ (fun r' hr' => by rw [lc_oneT r (by omega) hr', hk r'])
  have b90 : ∀ z, lc_B ((3 ≤ K p ∧ K p ≤ 6) ∨ K p = 8) z → ¬ (K p = 5 ∧ B p = r) → ¬ (K p = 6 ∧ B p = r) → wX_holdersAfter_90 post (nI p) (nI r) ((1 : Int32) <<< (nI r &&& 31)) z c st g qd a1 a2 a3 a4 a5 a6 a7 a8 a9 a10 a11 := fun z hz n5 n6 => by
    unfold wX_holdersAfter_90
    rcases hz with ⟨rfl, hz⟩ | ⟨rfl, hz⟩
    · refine br_f (by decide) ⟨pk_in p 24 (by omega), ?_⟩
      rw [hc, e2]
      refine pk_eq (A p) r (fun y => H 0 (fun r' _ => ⟨fun u => absurd u lc_0F, fun u => ?_⟩)) (fun y => keep (fun r' => ?_))
      · unfold lc_hd at u; omega
      · unfold lc_hd; omega
    · exact br_t rfl (keep (fun r' => by unfold lc_hd; omega))
  have b78 : K p < 3 ∨ 6 < K p → wX_holdersAfter_78 post (nI p) (nI r) ((1 : Int32) <<< (nI r &&& 31)) (nI (K p)) c st g qd a1 a2 a3 a4 a5 a6 a7 a8 a9 a10 a11 := fun z =>
    pk_eq (K p) 8 (fun y => b90 1 (Or.inl ⟨rfl, by omega⟩) (by omega) (by omega)) (fun y => b90 0 (Or.inr ⟨rfl, by omega⟩) (by omega) (by omega))
  have b65 : ¬ (K p = 5 ∧ B p = r) → ¬ (K p = 6 ∧ B p = r) → wX_holdersAfter_65 post (nI p) (nI r) ((1 : Int32) <<< (nI r &&& 31)) (nI (K p)) c st g qd a1 a2 a3 a4 a5 a6 a7 a8 a9 a10 a11 := fun n5 n6 =>
    pk_lt (K p) 3 (fun y => b78 (by omega)) (fun y => pk_le (K p) 6 (fun y6 => b90 1 (Or.inl ⟨rfl, by omega⟩) n5 n6) (fun y6 => b78 (by omega)))
  have b37 : ¬ (K p = 5 ∧ B p = r) → wX_holdersAfter_37 post (nI p) (nI r) ((1 : Int32) <<< (nI r &&& 31)) (nI (K p)) c st g qd a1 a2 a3 a4 a5 a6 a7 a8 a9 a10 a11 := fun n5 => by
    unfold wX_holdersAfter_37
    rw [hc, e2, e3]
    refine pk_eq (K p) 6 (fun z => ⟨pk_in p 24 (by omega), pk_eq (B p) r (fun y => ⟨pk_in p 24 (by omega), H _ (fun r' hr' => ?_)⟩) (fun y => b65 n5 (fun u => y u.2))⟩) (fun z => b65 n5 (fun u => z u.1))
    have hA := k4 (by omega)
    rw [lc_orT, lc_oneT r (by omega) hr', lc_oneT (A p) (by omega) hr']
    unfold lc_hd; omega
  unfold wpX_holdersAfter
  dsimp only
  rw [hc, e1, e2, e3]
  refine nm_e ⟨pk_in p 24 (by omega), nm_e (pk_eq (K p) 5 (fun z => ⟨pk_in p 24 (by omega), pk_eq (B p) r (fun y => ⟨pk_in p 24 (by omega), H _ (fun r' hr' => ?_)⟩) (fun y => b37 (fun u => y u.2))⟩) (fun z => b37 (fun u => z u.1)))⟩
  have hA := k4 (by omega)
  rw [lc_oneT (A p) (by omega) hr']
  unfold lc_hd; omega
theorem lc_w_stepTo {post : St1 → Prop} {r q d k z : Nat} {x : Int32} (hx : (x = 0 ∧ z = 24) ∨ (x = 1 ∧ z = 120)) (hr : r < 4) (hq : q < 24) (hI : lc_bi n K A B b t k a10 a11) (hd : 2 ≤ d) (hdk : d ≤ k + 1) (h120 : z = 120 → 3 ≤ d) (hm : lc_sem n K A B b t (z + 24 * r + q))
    (H : ∀ k' a10' a11', lc_bi n K A B b t k' a10' a11' → lc_xt k a10 a11 k' a10' a11' → a10' (z + 24 * r + q) ≠ -1 → post (c, st, g, nI k', a1, a2, a3, a4, a5, a6, a7, a8, a9, a10', a11')) :
    wpX_stepTo post (c, st, g, nI k, a1, a2, a3, a4, a5, a6, a7, a8, a9, a10, a11) x (nI r) (nI q) (nI d) := by
  have f : wX_stepTo_12 post (nI r) (nI q) (nI d) (nI z) c st g (nI k) a1 a2 a3 a4 a5 a6 a7 a8 a9 a10 a11 := by
    unfold wX_stepTo_12
    rw [lc_ix24]
    exact lc_w_reach hI (by omega) (by omega) hdk (fun _ => hd) (fun y => h120 (by omega)) hm H
  unfold wpX_stepTo
  rcases hx with ⟨rfl, rfl⟩ | ⟨rfl, rfl⟩
  · exact br_t rfl f
  · exact br_f (by decide) f
theorem lc_w_stepHeld {post : St1 → Prop} {p r k z d : Nat} (hP : lc_P n K A B a1 a2 a3) (hz : z = 24 ∨ z = 120) (hp : p < n) (hr : r < 4) (ht : t < n) (hI : lc_bi n K A B b t k a10 a11) (hv : a10 (z + 24 * r + p) = nI d) (hd : 2 ≤ d) (hdk : d ≤ k) (h120 : z = 120 → 3 ≤ d)
    (hm : ∀ i q r', lc_E n K A p i q → lc_hd K A B p r r' → lc_sem n K A B b t (z + 24 * r' + q)) (hn' : p = t → ∀ i q r', lc_E n K A p i q → lc_hd K A B p r r' → lc_sem n K A B b t (120 + 24 * r' + q))
    (H : ∀ k' a10' a11', lc_bi n K A B b t k' a10' a11' → lc_xt k a10 a11 k' a10' a11' → (∀ i q r', lc_E n K A p i q → lc_hd K A B p r r' → a10' (z + 24 * r' + q) ≠ -1 ∧ (p = t → a10' (120 + 24 * r' + q) ≠ -1)) → post (nI n, st, g, nI k', a1, a2, a3, a4, a5, a6, a7, a8, a9, a10', a11')) :
    wpX_stepHeld post (nI n, st, g, nI k, a1, a2, a3, a4, a5, a6, a7, a8, a9, a10, a11) (nI (z + 24 * r + p)) (nI t) := by
  have hn := hP.1.1
  have hk := hI.1
  have main : ∀ x, (x = 0 ∧ z = 24) ∨ (x = 1 ∧ z = 120) → wX_stepHeld_11 post (nI (z + 24 * r + p)) (nI t) x (nI n) st g (nI k) a1 a2 a3 a4 a5 a6 a7 a8 a9 a10 a11 := by
    intro x hx
    unfold wX_stepHeld_11
    have e1 : (nI (z + 24 * r + p) - 24) / 24 - (nI (z + 24 * r + p) - 24) / 24 / 4 * 4 = nI r := by
      show (nI (z + 24 * r + p) - nI 24) / nI 24 - (nI (z + 24 * r + p) - nI 24) / nI 24 / nI 4 * nI 4 = nI r
      rw [pk_sub (by omega), pk_div (by omega) (by omega) (by omega), pk_rem (by omega) (by omega) (by omega)]
      congr 1
      omega
    have e2 : nI (z + 24 * r + p) - nI (z + 24 * r + p) / 24 * 24 = nI p := by
      show nI (z + 24 * r + p) - nI (z + 24 * r + p) / nI 24 * nI 24 = nI p
      rw [pk_rem (by omega) (by omega) (by omega)]
      congr 1
      omega
    refine ⟨by decide, by decide, nm_r e1 ⟨by decide, nm_r e2 (lc_w_holders hP hp hr (fun hs hhs => ?_))⟩⟩
    refine pk_loop (fun m i s => wX_stepHeld_42 post (nI (z + 24 * r + p)) (nI t) x (nI p) hs m (nI i) (nI n) st g (nI s.1) a1 a2 a3 a4 a5 a6 a7 a8 a9 s.2.1 s.2.2)
      (fun i s => lc_bi n K A B b t s.1 s.2.1 s.2.2 ∧ lc_xt k a10 a11 s.1 s.2.1 s.2.2 ∧ ∀ j q r', j < i → lc_E n K A p j q → lc_hd K A B p r r' → s.2.1 (z + 24 * r' + q) ≠ -1 ∧ (p = t → s.2.1 (120 + 24 * r' + q) ≠ -1)) 2 0 (k, a10, a11) (by omega) ⟨hI, lc_xt_r _ _ _, fun j q r' hj => absurd hj (by omega)⟩ ?_ ?_
    · rintro m ⟨k1, s10, s11⟩ ⟨h1, h2, h3⟩
      dsimp only at h1 h2 h3 ⊢
      exact pk_le 2 2 (fun _ => H k1 s10 s11 h1 h2 (fun i q r' e => h3 i q r' (lc_E_i e) e)) (fun y => absurd y (by omega))
    · rintro m i ⟨k1, s10, s11⟩ hi ⟨h1, h2, h3⟩ hw
      dsimp only at h1 h2 h3 hw ⊢
      refine pk_le 2 i (fun y => absurd y (by omega)) (fun _ => lc_w_behind hP hp hi (fun hno => ?_) (fun q hq => ?_))
      · refine ⟨1, br_f (by decide) (br_t rfl (nm_r (nI_1 i) (hw (k1, s10, s11) ⟨h1, h2, fun j q r' hj e => ?_⟩)))⟩
        by_cases ej : j = i
        · rw [ej] at e; exact absurd e (hno q)
        · exact h3 j q r' (by omega) e
      · have hq24 : q < n := hq.2.1
        refine pk_loop (fun m' ρ s => wX_stepHeld_61 post (wX_stepHeld_42 post (nI (z + 24 * r + p)) (nI t) x (nI p) hs m) (nI (z + 24 * r + p)) (nI t) x (nI p) hs (nI i) (nI q) m' (nI ρ) (nI n) st g (nI s.1) a1 a2 a3 a4 a5 a6 a7 a8 a9 s.2.1 s.2.2)
          (fun ρ s => lc_bi n K A B b t s.1 s.2.1 s.2.2 ∧ lc_xt k1 s10 s11 s.1 s.2.1 s.2.2 ∧ ∀ r', r' < ρ → lc_hd K A B p r r' → s.2.1 (z + 24 * r' + q) ≠ -1 ∧ (p = t → s.2.1 (120 + 24 * r' + q) ≠ -1)) 4 0 (k1, s10, s11) (by omega) ⟨h1, lc_xt_r _ _ _, fun r' hj => absurd hj (by omega)⟩ ?_ ?_
        · rintro m' ⟨k2, u10, u11⟩ ⟨g1, g2, g3⟩
          dsimp only at g1 g2 g3 ⊢
          refine pk_le 4 4 (fun _ => nm_r (nI_1 i) (hw (k2, u10, u11) ⟨g1, lc_xt_t h2 g2, fun j q' r' hj e hd' => ?_⟩)) (fun y => absurd y (by omega))
          dsimp only
          by_cases ej : j = i
          · rw [ej] at e
            rw [← lc_E_f hq e]
            exact g3 r' (lc_hd_4 hP.1 hp hr hd') hd'
          · obtain ⟨y1, y2⟩ := h3 j q' r' (by omega) e hd'
            exact ⟨lc_xt_v g2 y1, fun v => lc_xt_v g2 (y2 v)⟩
        · rintro m' ρ ⟨k2, u10, u11⟩ hρ ⟨g1, g2, g3⟩ hw'
          dsimp only at g1 g2 g3 hw' ⊢
          have hxx := lc_xt_t h2 g2
          have hcs : (nI (z + 24 * r + p)).toNatClampNeg = z + 24 * r + p := nI_clamp (by omega)
          have hkk := hxx.1
          refine pk_le 4 ρ (fun y => absurd y (by omega)) (fun _ => br_f (lc_m1_ne (by omega)) (br_c (fun y => ⟨pk_in (z + 24 * r + p) 216 (by omega), ?_⟩) (fun y => nm_r (nI_1 ρ) (hw' (k2, u10, u11) ⟨g1, g2, fun r' hr' hd' => ?_⟩))))
          · have hρd : lc_hd K A B p r ρ := (hhs ρ (by omega)).mp ((lc_t1 hs ρ (by omega)).mp y)
            have hvv : a10 (z + 24 * r + p) ≠ -1 := by rw [hv]; exact lc_m1_ne (by omega)
            have ev : u10 (z + 24 * r + p) = nI d := by rw [hxx.2.1 _ hvv, hv]
            rw [hcs, ev, nI_1 d]
            refine lc_w_stepTo hx hρ (by omega) g1 (by omega) (by omega) (fun v => by omega) (hm i q ρ hq hρd) (fun k3 w10 w11 f1 f2 f3 => ?_)
            have ev' : w10 (z + 24 * r + p) = nI d := by rw [f2.2.1 _ (lc_xt_v hxx hvv), ev]
            have hk3 := f2.1
            dsimp only
            rw [ev', nI_1 d]
            refine pk_eq p t (fun v => ⟨pk_in (z + 24 * r + p) 216 (by omega), ?_⟩) (fun v => nm_r (nI_1 ρ) (hw' (k3, w10, w11) ⟨f1, lc_xt_t g2 f2, fun r' hr' hd' => ?_⟩))
            · refine lc_w_stepTo (z := 120) (Or.inr ⟨rfl, rfl⟩) hρ (by omega) f1 (by omega) (by omega) (fun _ => by omega) (hn' v i q ρ hq hρd) (fun k4 v10 v11 e1 e2 e3 => nm_r (nI_1 ρ) (hw' (k4, v10, v11) ⟨e1, lc_xt_t (lc_xt_t g2 f2) e2, fun r' hr' hd' => ?_⟩))
              dsimp only
              by_cases er : r' = ρ
              · rw [er]; exact ⟨lc_xt_v e2 f3, fun _ => e3⟩
              · obtain ⟨y1, y2⟩ := g3 r' (by omega) hd'
                exact ⟨lc_xt_v e2 (lc_xt_v f2 y1), fun v => lc_xt_v e2 (lc_xt_v f2 (y2 v))⟩
            · dsimp only
              by_cases er : r' = ρ
              · rw [er]; exact ⟨f3, fun v' => absurd v' v⟩
              · obtain ⟨y1, y2⟩ := g3 r' (by omega) hd'
                exact ⟨lc_xt_v f2 y1, fun v => lc_xt_v f2 (y2 v)⟩
          · by_cases er : r' = ρ
            · rw [er] at hd'
              exact absurd ((lc_t1 hs ρ (by omega)).mpr ((hhs ρ (by omega)).mpr hd')) y
            · exact g3 r' (by omega) hd'
  unfold wpX_stepHeld
  exact pk_lt (z + 24 * r + p) 120 (fun y => main 0 (Or.inl ⟨rfl, by omega⟩)) (fun y => main 1 (Or.inr ⟨rfl, by omega⟩))
end
/-- s is done: its followers are visited, and it is no use of the holder after the conflict -/
def lc_dn (n : Nat) (K A B : Nat → Nat) (b t : Nat) (a10 : Nat → Int32) (s : Nat) : Prop := (∀ q, q < 24 → s = q → ∀ i q', lc_E n K A q i q' → a10 q' ≠ -1 ∧ (q = b → a10 (24 + 24 * A b + q') ≠ -1)) ∧
  (∀ r q, r < 4 → q < 24 → s = 24 + 24 * r + q → ∀ i q' r', lc_E n K A q i q' → lc_hd K A B q r r' → a10 (24 + 24 * r' + q') ≠ -1 ∧ (q = t → a10 (120 + 24 * r' + q') ≠ -1)) ∧
  (∀ r q, r < 4 → q < 24 → s = 120 + 24 * r + q → ¬ (K q = 7 ∧ A q = r) ∧ ∀ i q' r', lc_E n K A q i q' → lc_hd K A B q r r' → a10 (120 + 24 * r' + q') ≠ -1)
section
variable {n : Nat} {K A B : Nat → Nat} {b t : Nat} {a10 a11 : Nat → Int32}
theorem lc_dn_x {k k' : Nat} {a10' a11' : Nat → Int32} (h : lc_xt k a10 a11 k' a10' a11') {s : Nat} (d : lc_dn n K A B b t a10 s) : lc_dn n K A B b t a10' s := by
  obtain ⟨d1, d2, d3⟩ := d
  refine ⟨fun q hq e i q' he => ?_, fun r q hr hq e i q' r' he hd => ?_, fun r q hr hq e => ⟨(d3 r q hr hq e).1, fun i q' r' he hd => ?_⟩⟩
  · obtain ⟨y1, y2⟩ := d1 q hq e i q' he
    exact ⟨lc_xt_v h y1, fun v => lc_xt_v h (y2 v)⟩
  · obtain ⟨y1, y2⟩ := d2 r q hr hq e i q' r' he hd
    exact ⟨lc_xt_v h y1, fun v => lc_xt_v h (y2 v)⟩
  · exact lc_xt_v h ((d3 r q hr hq e).2 i q' r' he hd)
theorem lc_bfs_no (w : lc_wf n K A B) (hb : b < n) (h0 : a10 0 ≠ -1) (hd : ∀ s, s < 216 → a10 s ≠ -1 → lc_dn n K A B b t a10 s) : ¬ lc_Cf n K A B b t := by
  have hn := w.1
  have R : ∀ q, lc_R n K A q → a10 q ≠ -1 := fun q h => h (fun q => a10 q ≠ -1) (fun _ => h0) (fun p i q z e => ((hd p (by have := e.1; omega) z).1 p (by have := e.1; omega) rfl i q e).1)
  have Hh : ∀ q r, lc_H n K A B b q r → r < 4 ∧ a10 (24 + 24 * r + q) ≠ -1 := fun q r h => h (fun q r => r < 4 ∧ a10 (24 + 24 * r + q) ≠ -1) (fun e => by omega)
    (fun p i q r hR hg e => by
      have hp := e.1
      refine ⟨lc_gn_4 w hp hg, ?_⟩
      have e1 : p = b ∧ r = A b := by
        rcases hg with ⟨g1, g2, g3, g4⟩ | ⟨g1, _⟩ | ⟨g1, _⟩
        · exact ⟨g1.symm, by rw [g1]; exact g4⟩
        · omega
        · omega
      rw [e1.2]
      exact ((hd p (by omega) (R p hR)).1 p (by omega) rfl i q e).2 e1.1)
    (fun p i q r r' z e d => by
      have hp := e.1
      have hr := z.1
      exact ⟨lc_hd_4 w hp z.1 d, ((hd _ (by omega) z.2).2.1 r p z.1 (by omega) rfl i q r' e d).1⟩)
  have Ww : ∀ q r, lc_W n K A B q r → r < 4 → ¬ a10 (120 + 24 * r + q) ≠ -1 := fun q r h => h (fun q r => r < 4 → ¬ a10 (120 + 24 * r + q) ≠ -1)
    (fun p hp k hr z => ((hd _ (by omega) z).2.2 (A p) p hr (by omega) rfl).1 ⟨k, rfl⟩)
    (fun p i q r r' e d ih hr z => by
      have hp := e.1
      exact ih (lc_hd_4 w hp hr d) (((hd _ (by omega) z).2.2 r p hr (by omega) rfl).2 i q r' e d))
  rintro ⟨r, i, q, r', h1, h2, h3, h4⟩
  obtain ⟨hr, hv⟩ := Hh t r h1
  have ht := h3.1
  exact Ww q r' h4 (lc_hd_4 w ht hr h2) (((hd _ (by omega) hv).2.1 r t hr (by omega) rfl i q r' h3 h2).2 rfl)
variable {st g : Int32} {a1 a2 a3 a4 a5 a6 a7 a8 a9 : Nat → Int32}
theorem lc_w_65 {post : Int32 → St1 → Prop} {k : Nat} (hP : lc_P n K A B a1 a2 a3) (hb : b < n) (ht : t < n) (hD : lc_D K A B t b) (hI : lc_bi n K A B b t k a10 a11) (h0 : a10 0 ≠ -1)
    (H0 : ∀ k' a10' a11', ¬ lc_C n K A B b t → post (-3) (nI n, st, g, nI k', a1, a2, a3, a4, a5, a6, a7, a8, a9, a10', a11'))
    (H1 : ∀ d k' a10' a11', 3 ≤ d → d ≤ 216 → lc_C n K A B b t → post (nI d) (nI n, st, g, nI k', a1, a2, a3, a4, a5, a6, a7, a8, a9, a10', a11')) :
    ∃ fu, wX_shown_65 post (nI b) (nI t) fu 0 (nI n) st g (nI k) a1 a2 a3 a4 a5 a6 a7 a8 a9 a10 a11 := by
  have hn := hP.1.1
  refine loop_m (fun m (s : Nat × Nat × (Nat → Int32) × (Nat → Int32)) => wX_shown_65 post (nI b) (nI t) m (nI s.1) (nI n) st g (nI s.2.1) a1 a2 a3 a4 a5 a6 a7 a8 a9 s.2.2.1 s.2.2.2)
    (fun s => s.1 ≤ s.2.1 ∧ lc_bi n K A B b t s.2.1 s.2.2.1 s.2.2.2 ∧ s.2.2.1 0 ≠ -1 ∧ ∀ j x, j < s.1 → x < 216 → s.2.2.2 j = nI x → lc_dn n K A B b t s.2.2.1 x)
    (fun s => 217 - s.1) ?_ (0, k, a10, a11) ⟨Nat.zero_le _, hI, h0, fun j x hj => absurd hj (Nat.not_lt_zero j)⟩
  rintro m ⟨i, k1, s10, s11⟩ ⟨g0, g1, g2, g3⟩ hw
  dsimp only at g0 g1 g2 g3 hw ⊢
  have hk1 := g1.1
  refine pk_le k1 i (fun z => H0 k1 s10 s11 (fun hc => lc_bfs_no hP.1 hb g2 (fun s hs hv => ?_) hc.2.2)) (fun z => ⟨pk_in i 216 (by omega), ?_⟩)
  · obtain ⟨_, _, j, hj, ej⟩ := g1.2.2.1 s hs hv
    exact g3 j s (by omega) hs ej
  · obtain ⟨s, hs, es, hv⟩ := g1.2.2.2 i z
    refine nm_r (e' := nI s) (by rw [nI_clamp (by omega), es]) ?_
    obtain ⟨⟨d, ed, d1, d2, d3, d4⟩, sem, _⟩ := g1.2.2.1 s hs hv
    have next : ∀ k' s10' s11', lc_bi n K A B b t k' s10' s11' → lc_xt k1 s10 s11 k' s10' s11' → lc_dn n K A B b t s10' s → wX_shown_65 post (nI b) (nI t) m (nI (i + 1)) (nI n) st g (nI k') a1 a2 a3 a4 a5 a6 a7 a8 a9 s10' s11' := fun k' s10' s11' b1 b2 b3 => by
      have hkk := b2.1
      refine hw (i + 1, k', s10', s11') ⟨by dsimp only; omega, b1, lc_xt_v b2 g2, fun j x hj hx ex => ?_⟩ (by dsimp only; omega)
      dsimp only at hj ex ⊢
      rw [b2.2.2 j (by omega)] at ex
      by_cases ej : j = i
      · rw [ej, es] at ex
        rw [← (nI_eq (by omega) (by omega)).mp ex]; exact b3
      · exact lc_dn_x b2 (g3 j x (by omega) hx ex)
    have b132 : (120 ≤ s → ∀ r q, r < 4 → q < 24 → s = 120 + 24 * r + q → ¬ (K q = 7 ∧ A q = r)) → wX_shown_132 post (wX_shown_65 post (nI b) (nI t) m) (nI b) (nI t) (nI i) (nI s) (nI n) st g (nI k1) a1 a2 a3 a4 a5 a6 a7 a8 a9 s10 s11 := fun hg => by
      unfold wX_shown_132
      refine pk_le 24 s (fun y => ?_) (fun y => ?_)
      · by_cases y2 : s < 120
        · obtain ⟨r, q, hr, hq, e⟩ : ∃ r q, r < 4 ∧ q < 24 ∧ s = 24 + 24 * r + q := ⟨(s - 24) / 24, (s - 24) % 24, by omega, by omega, by omega⟩
          subst e
          have hH := sem.2.1 r q hr hq rfl
          have hqn := lc_H_lt hH
          refine lc_w_stepHeld hP (Or.inl rfl) hqn hr ht g1 ed (d3 y) d2 (fun v => by omega) (fun i' q' r' e' hd' => ?_) (fun eqt i' q' r' e' hd' => ?_) (fun k' s10' s11' b1 b2 b3 => nm_r (nI_1 i) (next k' s10' s11' b1 b2 ⟨fun q' hq' e' => by omega, fun r' q' hr' hq' e' => ?_, fun r' q' hr' hq' e' => by omega⟩))
          · have := e'.2.1
            exact lc_sem_h (lc_hd_4 hP.1 hqn hr hd') (by omega) (lc_H_s hH e' hd')
          · have := e'.2.1
            refine lc_sem_a (lc_hd_4 hP.1 hqn hr hd') (by omega) this (fun hW => ⟨r, i', q', r', ?_, ?_, ?_, hW⟩)
            · rw [← eqt]; exact hH
            · rw [← eqt]; exact hd'
            · rw [← eqt]; exact e'
          · have e1 : r' = r := by omega
            have e2 : q' = q := by omega
            subst e1 e2
            exact b3
        · obtain ⟨r, q, hr, hq, e⟩ : ∃ r q, r < 4 ∧ q < 24 ∧ s = 120 + 24 * r + q := ⟨(s - 120) / 24, (s - 120) % 24, by omega, by omega, by omega⟩
          subst e
          obtain ⟨hqn, hW⟩ := sem.2.2 r q hr hq rfl
          have step : ∀ i' q' r', lc_E n K A q i' q' → lc_hd K A B q r r' → lc_sem n K A B b t (120 + 24 * r' + q') := fun i' q' r' e' hd' => by
            have := e'.2.1
            exact lc_sem_a (lc_hd_4 hP.1 hqn hr hd') (by omega) this (fun v => hW (lc_W_s e' hd' v))
          refine lc_w_stepHeld hP (Or.inr rfl) hqn hr ht g1 ed (d3 y) d2 (fun _ => d4 (by omega)) step (fun _ => step) (fun k' s10' s11' b1 b2 b3 => nm_r (nI_1 i) (next k' s10' s11' b1 b2 ⟨fun q' hq' e' => by omega, fun r' q' hr' hq' e' => by omega, fun r' q' hr' hq' e' => ?_⟩))
          have e1 : r' = r := by omega
          have e2 : q' = q := by omega
          subst e1 e2
          exact ⟨hg (by omega) r' q' hr hq rfl, fun i' q2 r2 e2 hd2 => (b3 i' q2 r2 e2 hd2).1⟩
      · have hR := sem.1 s y rfl
        have hsn := lc_R_lt hR
        refine lc_w_stepBefore hP hsn hb hD.1 g1 hv (fun k' s10' s11' b1 b2 b3 => nm_r (nI_1 i) (next k' s10' s11' b1 b2 ⟨fun q' hq' e' => ?_, fun r' q' hr' hq' e' => by omega, fun r' q' hr' hq' e' => by omega⟩))
        subst e'
        exact b3
    refine pk_lt s 120 (fun y => b132 (fun v => by omega)) (fun y => ?_)
    obtain ⟨r, q, hr, hq, e⟩ : ∃ r q, r < 4 ∧ q < 24 ∧ s = 120 + 24 * r + q := ⟨(s - 120) / 24, (s - 120) % 24, by omega, by omega, by omega⟩
    obtain ⟨hqn, hW⟩ := sem.2.2 r q hr hq e
    have e1 : nI s - nI s / 24 * 24 = nI q := by
      show nI s - nI s / nI 24 * nI 24 = nI q
      rw [pk_rem (by omega) (by omega) (by omega)]
      congr 1
      omega
    have e2 : (nI s - 120) / 24 = nI r := by
      show (nI s - nI 120) / nI 24 = nI r
      rw [pk_sub (by omega), pk_div (by omega) (by omega) (by omega)]
      congr 1
      omega
    have hA := hP.1.2 q hqn
    rw [e1, e2, nI_clamp (show q < 2 ^ 31 by omega), (hP.2 q hqn).1, (hP.2 q hqn).2.1]
    have uq : ∀ r' q', r' < 4 → q' < 24 → s = 120 + 24 * r' + q' → r' = r ∧ q' = q := fun r' q' h1 h2 h3 => by omega
    refine ⟨by decide, pk_in q 24 (by omega), pk_eq (K q) 7 (fun y7 => ⟨by decide, pk_in q 24 (by omega), by decide, pk_eq (A q) r (fun ya => ⟨pk_in s 216 hs, ?_⟩) (fun ya => b132 (fun _ r' q' h1 h2 h3 v => ?_))⟩) (fun y7 => b132 (fun _ r' q' h1 h2 h3 v => ?_))⟩
    · rw [nI_clamp (show s < 2 ^ 31 by omega), ed]
      exact H1 d k1 s10 s11 (d4 y) (by omega) ⟨hb, hD, hW (by rw [← ya]; exact lc_W_u hqn y7)⟩
    · obtain ⟨u1, u2⟩ := uq r' q' h1 h2 h3
      rw [u1, u2] at v
      exact ya v.2
    · obtain ⟨u1, u2⟩ := uq r' q' h1 h2 h3
      rw [u1, u2] at v
      exact y7 v.1
end
section
variable {n : Nat} {K A B : Nat → Nat}
theorem lc_w_shown {post : Int32 → St1 → Prop} {u : St1} {b t : Nat} (h : lc_Ok n K A B u) (hb : b < n) (ht : t < n) (H : ∀ x u', ((x = -3 ∧ ¬ lc_C n K A B b t) ∨ (∃ d, 3 ≤ d ∧ d ≤ 216 ∧ x = nI d ∧ lc_C n K A B b t)) → lc_Ok n K A B u' → post x u') : wpX_shown post u (nI b) (nI t) := by
  obtain ⟨c, st, g, qd, a1, a2, a3, a4, a5, a6, a7, a8, a9, a10, a11⟩ := u
  unfold wpX_shown
  refine lc_w_bad h hb (br_t rfl (lc_w_bad h ht (br_t rfl ?_)))
  have hh := h
  obtain ⟨rfl, hP, hst⟩ := h
  have hn := hP.1.1
  refine lc_w_disturbs hP ht hb (fun x hx => ?_)
  rcases hx with ⟨rfl, hD⟩ | ⟨rfl, hD⟩
  · refine br_f (by decide) ?_
    refine pk_loop (fun m i s => wX_shown_32 post (nI b) (nI t) (nI n) st g qd m (nI i) a1 a2 a3 a4 a5 a6 a7 a8 a9 s a11) (fun i s => ∀ j, j < i → s j = -1) 216 0 a10 (by omega) (fun j hj => absurd hj (by omega)) ?_ ?_
    · intro m s hs
      refine pk_le 216 216 (fun _ => ?_) (fun z => absurd z (by omega))
      have hI0 : lc_bi n K A B b t 0 s a11 := by
        refine ⟨by omega, ?_, fun x hx hv => absurd (hs x hx) hv, fun j hj => absurd hj (by omega)⟩
        rw [lc_cn_ex (n := 0) (Nat.zero_le _) (fun i _ hi z => z (hs i hi))]
        rfl
      exact lc_w_reach (s := 0) (d := 1) (k := 0) hI0 (by omega) (by omega) (by omega) (fun y => by omega) (fun y => by omega) (lc_sem_p (by omega) (lc_R_0 (by omega))) (fun k' s10 s11 b1 b2 b3 => lc_w_65 hP hb ht hD b1 b3 (fun k2 u10 u11 hC => H _ _ (Or.inl ⟨rfl, hC⟩) ⟨rfl, hP, hst⟩) (fun d k2 u10 u11 d1 d2 hC => H _ _ (Or.inr ⟨d, d1, d2, rfl, hC⟩) ⟨rfl, hP, hst⟩))
    · intro m i s hi hs hw
      refine pk_le 216 i (fun z => absurd z (by omega)) (fun _ => ⟨pk_in i 216 hi, nm_r (e' := upd s i (-1)) (by rw [nI_clamp (by omega)]) (nm_r (nI_1 i) (hw _ (fun j hj => ?_)))⟩)
      by_cases e : j = i
      · rw [e, pk_us]
      · rw [pk_un e]; exact hs j (by omega)
  · exact br_t rfl (H _ _ (Or.inl ⟨rfl, fun z => hD z.2.1⟩) hh)
end
end
section
/-! point, change, drop; the law's helpers kind, first, second, turn -/
def lc_up (f : Nat → Nat) (k v : Nat) : Nat → Nat := fun j => if j = k then v else f j
theorem lc_up_s {f : Nat → Nat} {k v : Nat} : lc_up f k v k = v := if_pos rfl
theorem lc_up_n {f : Nat → Nat} {k v j : Nat} (h : j ≠ k) : lc_up f k v j = f j := if_neg h
def lc_kn (o : Nat) : Nat := if o < 3 then o else if o < 5 then 3 else if o < 7 then 4 else if o < 8 then 5 else if o < 9 then 6 else if o < 12 then 7 else if o = 12 then 8 else if o = 13 then 9 else if o = 14 then 10 else 7
def lc_kd (x : Int32) : Nat := lc_kn (x.toBitVec.toNat % 2 ^ 4)
def lc_fs (x : Int32) : Nat := if lc_kd x = 9 ∨ lc_kd x = 10 then ((x >>> ((4 : Int32) &&& 31)).toBitVec.toNat % 2 ^ 5) % 25 else if 3 ≤ lc_kd x then ((x >>> ((4 : Int32) &&& 31)).toBitVec.toNat % 2 ^ 2) % 3 else (x >>> ((4 : Int32) &&& 31)).toBitVec.toNat % 2 ^ 1
def lc_sc (x : Int32) : Nat := if lc_kd x ≤ 4 then (x >>> ((6 : Int32) &&& 31)).toBitVec.toNat % 2 ^ 1 else ((x >>> ((6 : Int32) &&& 31)).toBitVec.toNat % 2 ^ 2) % 3
def lc_at (x : Int32) (n : Nat) : Nat := ((x >>> ((9 : Int32) &&& 31)).toBitVec.toNat % 2 ^ 5) % n
theorem lc_kn_b : ∀ o, lc_kn o ≤ 10 := by
  intro o
  unfold lc_kn
  repeat' split
  all_goals omega
theorem lc_kd_b (x : Int32) : lc_kd x ≤ 10 := lc_kn_b _
theorem lc_fs_b (x : Int32) : lc_fs x ≤ 24 := by
  unfold lc_fs
  repeat' split
  all_goals omega
theorem lc_fs_4 (x : Int32) (h : lc_kd x ≤ 8) : lc_fs x < 3 := by
  unfold lc_fs
  rw [if_neg (by omega)]
  split
  all_goals omega
theorem lc_sc_b (x : Int32) : lc_sc x < 4 := by
  unfold lc_sc
  split
  all_goals omega
theorem lc_at_b (x : Int32) {n : Nat} (h : 0 < n) : lc_at x n < n := Nat.mod_lt _ h
theorem lc_w_kind {post : Int32 → Prop} {u : St2} {x : Int32} (H : post (nI (lc_kd x))) : wpL_kind post u x := by
  unfold wpL_kind
  refine nm_r (pk_and x 4 (by decide)) ?_
  unfold lc_kd at H
  have ho : x.toBitVec.toNat % 2 ^ 4 < 16 := Nat.mod_lt _ (by decide)
  generalize x.toBitVec.toNat % 2 ^ 4 = o at H ho
  refine pk_le 3 o (fun z => pk_le 5 o (fun z5 => pk_le 7 o (fun z7 => pk_le 8 o (fun z8 => pk_le 9 o (fun z9 => pk_le 12 o (fun z12 => pk_eq o 12 (fun y => ?_) (fun y12 => pk_eq o 13 (fun y => ?_) (fun y13 => pk_eq o 14 (fun y => ?_) (fun y14 => ?_)))) (fun y => ?_)) (fun y => ?_)) (fun y => ?_)) (fun y => ?_)) (fun y => ?_)) (fun y => ?_)
  all_goals (unfold lc_kn at H; repeat' split at H)
  all_goals first | (exfalso; omega) | exact H
theorem lc_w_first {post : Int32 → Prop} {u : St2} {x : Int32} (H : post (nI (lc_fs x))) : wpL_first post u x := by
  unfold wpL_first
  refine lc_w_kind ?_
  have hk := lc_kd_b x
  have f17 : (lc_kd x = 9 ∨ lc_kd x = 10) → wL_first_17 post x := fun z => by
    unfold wL_first_17
    refine ⟨by decide, ?_⟩
    unfold lc_fs at H
    rw [if_pos z] at H
    rw [pk_and (x >>> ((4 : Int32) &&& 31)) 5 (by decide)]
    have e : nI ((x >>> ((4 : Int32) &&& 31)).toBitVec.toNat % 2 ^ 5) - nI ((x >>> ((4 : Int32) &&& 31)).toBitVec.toNat % 2 ^ 5) / 25 * 25 = nI (((x >>> ((4 : Int32) &&& 31)).toBitVec.toNat % 2 ^ 5) % 25) := pk_rem (d := 25) (by omega) (by decide) (by decide)
    rw [e]
    exact H
  refine pk_eq (lc_kd x) 9 (fun z => f17 (Or.inl z)) (fun z9 => pk_eq (lc_kd x) 10 (fun z => f17 (Or.inr z)) (fun z10 => pk_le 3 (lc_kd x) (fun z => ⟨by decide, ?_⟩) (fun z => ?_)))
  · unfold lc_fs at H
    rw [if_neg (by omega), if_pos z] at H
    rw [pk_and (x >>> ((4 : Int32) &&& 31)) 2 (by decide)]
    have e : nI ((x >>> ((4 : Int32) &&& 31)).toBitVec.toNat % 2 ^ 2) - nI ((x >>> ((4 : Int32) &&& 31)).toBitVec.toNat % 2 ^ 2) / 3 * 3 = nI (((x >>> ((4 : Int32) &&& 31)).toBitVec.toNat % 2 ^ 2) % 3) := pk_rem (d := 3) (by omega) (by decide) (by decide)
    rw [e]
    exact H
  · unfold lc_fs at H
    rw [if_neg (by omega), if_neg (by omega)] at H
    rw [pk_and (x >>> ((4 : Int32) &&& 31)) 1 (by decide)]
    exact H
theorem lc_w_second {post : Int32 → Prop} {u : St2} {x : Int32} (H : post (nI (lc_sc x))) : wpL_second post u x := by
  unfold wpL_second
  refine lc_w_kind ?_
  have hk := lc_kd_b x
  refine pk_le (lc_kd x) 4 (fun z => ?_) (fun z => ⟨by decide, ?_⟩)
  · unfold lc_sc at H
    rw [if_pos z] at H
    rw [pk_and (x >>> ((6 : Int32) &&& 31)) 1 (by decide)]
    exact H
  · unfold lc_sc at H
    rw [if_neg (by omega)] at H
    rw [pk_and (x >>> ((6 : Int32) &&& 31)) 2 (by decide)]
    have e : nI ((x >>> ((6 : Int32) &&& 31)).toBitVec.toNat % 2 ^ 2) - nI ((x >>> ((6 : Int32) &&& 31)).toBitVec.toNat % 2 ^ 2) / 3 * 3 = nI (((x >>> ((6 : Int32) &&& 31)).toBitVec.toNat % 2 ^ 2) % 3) := pk_rem (d := 3) (by omega) (by decide) (by decide)
    rw [e]
    exact H
section
variable {n : Nat} {K A B : Nat → Nat}
theorem lc_w_out {post : Int32 → Prop} {u : St1} {a m : Nat} (h : a ≤ m) (hm : m < 2 ^ 31) (H : post 0) : wpX_out post u (nI a) (nI m) := by
  obtain ⟨c, st, g, qd, a1, a2, a3, a4, a5, a6, a7, a8, a9, a10, a11⟩ := u
  exact br_f (nI_pos (by omega)) (br_t (nI_le h hm) H)
theorem lc_w_badPart {post : Int32 → Prop} {u : St1} {k a b : Nat} (hk : k ≤ 10) (ha : a ≤ 24) (ha4 : k ≤ 8 → a < 4) (hb : b < 4) (H : post 0) : wpX_badPart post u (nI k) (nI a) (nI b) := by
  obtain ⟨c, st, g, qd, a1, a2, a3, a4, a5, a6, a7, a8, a9, a10, a11⟩ := u
  have o24 : wX_badPart_24 post (nI a) c st g qd a1 a2 a3 a4 a5 a6 a7 a8 a9 a10 a11 := lc_w_out (m := 24) ha (by decide) ⟨rfl, H⟩
  have b65 : ∀ x, wX_badPart_65 post (nI b) x c st g qd a1 a2 a3 a4 a5 a6 a7 a8 a9 a10 a11 := fun x => br_c (fun _ => H) (fun _ => lc_w_out (m := 3) (by omega) (by decide) (br_t rfl H))
  have b48 : k ≤ 8 → ∀ x, wX_badPart_48 post (nI k) (nI a) (nI b) x c st g qd a1 a2 a3 a4 a5 a6 a7 a8 a9 a10 a11 := fun h8 x => by
    have := ha4 h8
    exact pk_eq k 11 (fun z => absurd z (by omega)) (fun _ => lc_w_out (m := 3) (by omega) (by decide) (br_t rfl (b65 x)))
  unfold wpX_badPart
  exact lc_w_out (m := 11) (by omega) (by decide) (br_t rfl (pk_eq k 9 (fun _ => o24) (fun z9 => pk_eq k 10 (fun _ => o24) (fun z10 => pk_lt k 3 (fun z => b48 (by omega) 0) (fun z => pk_lt 6 k (fun y => b48 (by omega) 0) (fun y => b48 (by omega) 1))))))
theorem lc_P_up {a1 a2 a3 : Nat → Int32} {n' p k a b : Nat} (hP : lc_P n K A B a1 a2 a3) (hn : n' ≤ 24) (hnn : ∀ j, j < n' → j ≠ p → j < n) (hk : k ≤ 10) (ha : a ≤ 24) (ha4 : k ≤ 8 → a < 4) (hb : b < 4) :
    lc_P n' (lc_up K p k) (lc_up A p a) (lc_up B p b) (upd a1 p (nI k)) (upd a2 p (nI a)) (upd a3 p (nI b)) := by
  refine ⟨⟨hn, fun j hj => ?_⟩, fun j hj => ?_⟩
  · by_cases e : j = p
    · subst e; rw [lc_up_s, lc_up_s, lc_up_s]; exact ⟨hk, ha, hb, ha4⟩
    · rw [lc_up_n e, lc_up_n e, lc_up_n e]; exact hP.1.2 j (hnn j hj e)
  · by_cases e : j = p
    · subst e; rw [lc_up_s, lc_up_s, lc_up_s, pk_us, pk_us, pk_us]; exact ⟨rfl, rfl, rfl⟩
    · rw [lc_up_n e, lc_up_n e, lc_up_n e, pk_un e, pk_un e, pk_un e]; exact hP.2 j (hnn j hj e)
theorem lc_w_point {post : Int32 → St1 → Prop} {u : St1} {k a b : Nat} (h : lc_Ok n K A B u) (hk : k ≤ 10) (ha : a ≤ 24) (ha4 : k ≤ 8 → a < 4) (hb : b < 4)
    (H0 : n = 24 → post (-2) u) (H1 : n < 24 → ∀ u', lc_Ok (n + 1) (lc_up K n k) (lc_up A n a) (lc_up B n b) u' → post (nI n) u') : wpX_point post u (nI k) (nI a) (nI b) := by
  obtain ⟨c, st, g, qd, a1, a2, a3, a4, a5, a6, a7, a8, a9, a10, a11⟩ := u
  obtain ⟨rfl, hP, _⟩ := h
  have hn := hP.1.1
  unfold wpX_point
  refine lc_w_badPart hk ha ha4 hb (br_t rfl (pk_eq n 24 H0 (fun z => ?_)))
  unfold wpX_write
  have hc : (nI n).toNatClampNeg = n := nI_clamp (by omega)
  refine ⟨pk_in n 24 (by omega), nm_r (e' := upd a1 n (nI k)) (by rw [hc]) ⟨pk_in n 24 (by omega), nm_r (e' := upd a2 n (nI a)) (by rw [hc]) ⟨pk_in n 24 (by omega), nm_r (e' := upd a3 n (nI b)) (by rw [hc]) (nm_r (nI_1 n) ?_)⟩⟩⟩
  rw [nI_pred]
  exact H1 (by omega) _ ⟨rfl, lc_P_up hP (by omega) (fun j h1 h2 => by omega) hk ha ha4 hb, Or.inl rfl⟩
theorem lc_w_change {post : Int32 → St1 → Prop} {u : St1} {p k a b : Nat} (h : lc_Ok n K A B u) (hp : p < n) (hk : k ≤ 10) (ha : a ≤ 24) (ha4 : k ≤ 8 → a < 4) (hb : b < 4)
    (H : ∀ u', lc_Ok n (lc_up K p k) (lc_up A p a) (lc_up B p b) u' → post (nI (K p)) u') : wpX_change post u (nI p) (nI k) (nI a) (nI b) := by
  obtain ⟨c, st, g, qd, a1, a2, a3, a4, a5, a6, a7, a8, a9, a10, a11⟩ := u
  have hh := h
  obtain ⟨rfl, hP, _⟩ := h
  have hn := hP.1.1
  have hc : (nI p).toNatClampNeg = p := nI_clamp (by omega)
  unfold wpX_change
  refine lc_w_bad hh hp (br_t rfl (lc_w_badPart hk ha ha4 hb (br_t rfl ⟨pk_in p 24 (by omega), nm_r (e' := nI (K p)) (by rw [hc, (hP.2 p hp).1]) ?_⟩)))
  unfold wpX_write
  refine ⟨pk_in p 24 (by omega), nm_r (e' := upd a1 p (nI k)) (by rw [hc]) ⟨pk_in p 24 (by omega), nm_r (e' := upd a2 p (nI a)) (by rw [hc]) ⟨pk_in p 24 (by omega), nm_r (e' := upd a3 p (nI b)) (by rw [hc]) ?_⟩⟩⟩
  exact H _ ⟨rfl, lc_P_up hP (by omega) (fun j h1 h2 => h1) hk ha ha4 hb, Or.inl rfl⟩
theorem lc_w_drop {post : Int32 → St1 → Prop} {u : St1} (h : lc_Ok n K A B u) (hn0 : 0 < n) (H : ∀ u', lc_Ok (n - 1) K A B u' → post (nI (n - 1)) u') : wpX_drop post u := by
  obtain ⟨c, st, g, qd, a1, a2, a3, a4, a5, a6, a7, a8, a9, a10, a11⟩ := u
  obtain ⟨rfl, hP, _⟩ := h
  have hn := hP.1.1
  unfold wpX_drop
  refine pk_eq n 0 (fun z => absurd z (by omega)) (fun _ => nm_r (e' := nI (n - 1)) (pk_sub (b := 1) (by omega)) (H _ ⟨rfl, ⟨⟨by omega, fun p hp => hP.1.2 p (by omega)⟩, fun p hp => hP.2 p (by omega)⟩, Or.inl rfl⟩))
/-- what a turn does to the picture: its answer and the new one -/
def lc_T (op x : Int32) (n : Nat) (K A B : Nat → Nat) (r : Int32) (n' : Nat) (K' A' B' : Nat → Nat) : Prop :=
  ((op.toBitVec.toNat % 2 ^ 3 < 6 ∨ n = 0) ∧ n < 24 ∧ r = nI n ∧ n' = n + 1 ∧ K' = lc_up K n (lc_kd x) ∧ A' = lc_up A n (lc_fs x) ∧ B' = lc_up B n (lc_sc x)) ∨
  ((op.toBitVec.toNat % 2 ^ 3 < 6 ∨ n = 0) ∧ n = 24 ∧ r = -2 ∧ n' = n ∧ K' = K ∧ A' = A ∧ B' = B) ∨
  (op.toBitVec.toNat % 2 ^ 3 = 6 ∧ 0 < n ∧ r = nI (K (lc_at x n)) ∧ n' = n ∧ K' = lc_up K (lc_at x n) (lc_kd x) ∧ A' = lc_up A (lc_at x n) (lc_fs x) ∧ B' = lc_up B (lc_at x n) (lc_sc x)) ∨
  (op.toBitVec.toNat % 2 ^ 3 = 7 ∧ 0 < n ∧ r = nI (n - 1) ∧ n' = n - 1 ∧ K' = K ∧ A' = A ∧ B' = B)
theorem lc_w_turn (op x : Int32) (w : lc_wf n K A B) : ∃ r n' K' A' B', lc_T op x n K A B r n' K' A' B' ∧ ∀ (post : Int32 → St1 → Prop) (u : St1), lc_Ok n K A B u → (∀ u', lc_Ok n' K' A' B' u' → post r u') → wpL_turn post u op x := by
  have hn := w.1
  have ho : op.toBitVec.toNat % 2 ^ 3 < 8 := Nat.mod_lt _ (by decide)
  have eo : op &&& 7 = nI (op.toBitVec.toNat % 2 ^ 3) := pk_and op 3 (by decide)
  have hk := lc_kd_b x
  have hf := lc_fs_b x
  have hf4 : lc_kd x ≤ 8 → lc_fs x < 4 := fun h => by have := lc_fs_4 x h; omega
  have hs := lc_sc_b x
  have go : ∀ (post : Int32 → St1 → Prop) (u : St1), lc_Ok n K A B u →
      ((op.toBitVec.toNat % 2 ^ 3 < 6 ∨ n = 0) → wpX_point post u (nI (lc_kd x)) (nI (lc_fs x)) (nI (lc_sc x))) →
      (op.toBitVec.toNat % 2 ^ 3 = 6 → 0 < n → wpX_change post u (nI (lc_at x n)) (nI (lc_kd x)) (nI (lc_fs x)) (nI (lc_sc x))) →
      (op.toBitVec.toNat % 2 ^ 3 = 7 → 0 < n → wpX_drop post u) → wpL_turn post u op x := by
    intro post u h H1 H2 H3
    obtain ⟨c, st, g, qd, a1, a2, a3, a4, a5, a6, a7, a8, a9, a10, a11⟩ := u
    have hh := h
    obtain ⟨rfl, hP, _⟩ := h
    unfold wpL_turn
    refine nm_r eo (lc_w_points hh (lc_w_kind (lc_w_first (lc_w_second ?_))))
    refine pk_lt (op.toBitVec.toNat % 2 ^ 3) 6 (fun z => H1 (Or.inl z)) (fun z => pk_eq n 0 (fun y => H1 (Or.inr y)) (fun y => pk_eq (op.toBitVec.toNat % 2 ^ 3) 6 (fun z6 => ⟨nI_ne0 (by omega) (by omega), ?_⟩) (fun z6 => H3 (by omega) (by omega))))
    rw [pk_and (x >>> ((9 : Int32) &&& 31)) 5 (by decide), pk_rem (by omega) (by omega) (by omega)]
    exact H2 z6 (by omega)
  by_cases h1 : op.toBitVec.toNat % 2 ^ 3 < 6 ∨ n = 0
  · by_cases h24 : n = 24
    · exact ⟨_, _, _, _, _, Or.inr (Or.inl ⟨h1, h24, rfl, rfl, rfl, rfl, rfl⟩), fun post u h H => go post u h (fun _ => lc_w_point h hk hf hf4 hs (fun _ => H u h) (fun z => absurd h24 (by omega))) (fun z y => absurd h1 (by omega)) (fun z y => absurd h1 (by omega))⟩
    · exact ⟨_, _, _, _, _, Or.inl ⟨h1, by omega, rfl, rfl, rfl, rfl, rfl⟩, fun post u h H => go post u h (fun _ => lc_w_point h hk hf hf4 hs (fun z => absurd z h24) (fun _ => H)) (fun z y => absurd h1 (by omega)) (fun z y => absurd h1 (by omega))⟩
  · by_cases h6 : op.toBitVec.toNat % 2 ^ 3 = 6
    · exact ⟨_, _, _, _, _, Or.inr (Or.inr (Or.inl ⟨h6, by omega, rfl, rfl, rfl, rfl, rfl⟩)), fun post u h H => go post u h (fun z => absurd z h1) (fun _ y => lc_w_change h (lc_at_b x y) hk hf hf4 hs H) (fun z y => absurd h6 (by omega))⟩
    · exact ⟨_, _, _, _, _, Or.inr (Or.inr (Or.inr ⟨by omega, by omega, rfl, rfl, rfl, rfl, rfl⟩)), fun post u h H => go post u h (fun z => absurd z h1) (fun z _ => absurd z h6) (fun _ y => lc_w_drop h y H)⟩
end
/-! the long that keeps the references of the uses, two bits a point -/
def lc_q (x : Int64) (p : Nat) : Int64 := (x >>> ((2 * nI p).toInt64 &&& 63)) &&& 3
def lc_lb (x : Int64) (i : Nat) : Bool := x.toBitVec.getLsbD i
theorem lc_lsl : ∀ k, k < 64 → (((nI k).toInt64 &&& 63).toBitVec.smod 64).toNat = k := by decide +kernel
theorem lc_l2 (p : Nat) : (2 : Int32) * nI p = nI (2 * p) := pk_mul 2 p
theorem lc_l3 : ∀ i, i < 64 → lc_lb 3 i = decide (i < 2) := by decide +kernel
theorem lc_lm1 : ∀ i, i < 64 → lc_lb (-1) i = true := by decide +kernel
theorem lc_lfz : ∀ f, f < 4 → ∀ i, i < 64 → 2 ≤ i → lc_lb (lN f) i = false := by decide +kernel
theorem lc_lext {x y : Int64} (h : ∀ i, i < 64 → lc_lb x i = lc_lb y i) : x = y := Int64.toBitVec_inj.mp (BitVec.eq_of_getLsbD_eq (fun i hi => h i hi))
theorem lc_lor (x y : Int64) (i : Nat) : lc_lb (x ||| y) i = (lc_lb x i || lc_lb y i) := by unfold lc_lb; rw [Int64.toBitVec_or, BitVec.getLsbD_or]
theorem lc_land (x y : Int64) (i : Nat) : lc_lb (x &&& y) i = (lc_lb x i && lc_lb y i) := by unfold lc_lb; rw [Int64.toBitVec_and, BitVec.getLsbD_and]
theorem lc_lxor (x y : Int64) (i : Nat) : lc_lb (x ^^^ y) i = (lc_lb x i ^^ lc_lb y i) := by unfold lc_lb; rw [Int64.toBitVec_xor, BitVec.getLsbD_xor]
theorem lc_lshl (n : Nat) (hn : n < 64) (x : Int64) {i : Nat} (hi : i < 64) : lc_lb (x <<< ((nI n).toInt64 &&& 63)) i = (decide (n ≤ i) && lc_lb x (i - n)) := by
  unfold lc_lb
  rw [Int64.toBitVec_shiftLeft]
  show (x.toBitVec <<< (((nI n).toInt64 &&& 63).toBitVec.smod 64).toNat).getLsbD i = _
  rw [lc_lsl n hn, BitVec.getLsbD_shiftLeft]
  rcases Nat.lt_or_ge i n with h | h
  · simp [h, Nat.not_le.mpr h]
  · simp [hi, h, Nat.not_lt.mpr h]
theorem lc_lshr (n : Nat) (hn : n < 64) (x : Int64) {i : Nat} (hi : i < 64) (h : n + i < 64) : lc_lb (x >>> ((nI n).toInt64 &&& 63)) i = lc_lb x (n + i) := by
  unfold lc_lb
  rw [Int64.toBitVec_shiftRight]
  show (x.toBitVec.sshiftRight (((nI n).toInt64 &&& 63).toBitVec.smod 64).toNat).getLsbD i = _
  rw [lc_lsl n hn, BitVec.getLsbD_sshiftRight]
  simp [hi, h]
theorem lc_q_b (x : Int64) {p : Nat} (hp : p < 24) {i : Nat} (hi : i < 64) : lc_lb (lc_q x p) i = (decide (i < 2) && lc_lb x (2 * p + i)) := by
  unfold lc_q
  rw [lc_land, lc_l3 i hi, lc_l2]
  by_cases h : i < 2
  · rw [lc_lshr (2 * p) (by omega) x hi (by omega), decide_eq_true h, Bool.and_true, Bool.true_and]
  · rw [decide_eq_false h, Bool.and_false, Bool.false_and]
def lc_qs (x : Int64) (p f : Nat) : Int64 := (x &&& (((3 : Int64) <<< ((2 * nI p).toInt64 &&& 63)) ^^^ (-1))) ||| ((nI f).toInt64 <<< ((2 * nI p).toInt64 &&& 63))
theorem lc_qs_b (x : Int64) {p f : Nat} (hp : p < 24) (hf : f < 4) {i : Nat} (hi : i < 64) : lc_lb (lc_qs x p f) i = if 2 * p ≤ i ∧ i < 2 * p + 2 then lc_lb (lN f) (i - 2 * p) else lc_lb x i := by
  unfold lc_qs
  rw [lc_l2, lc_lor, lc_land, lc_lxor, lc_lm1 i hi, lc_lshl (2 * p) (by omega) _ hi, lc_lshl (2 * p) (by omega) _ hi, nI_l (show f < 2 ^ 31 by omega)]
  by_cases h : 2 * p ≤ i
  · rw [decide_eq_true h, lc_l3 (i - 2 * p) (by omega)]
    by_cases h2 : i < 2 * p + 2
    · rw [if_pos ⟨h, h2⟩, decide_eq_true (show i - 2 * p < 2 by omega)]
      simp
    · rw [if_neg (by omega), decide_eq_false (show ¬ i - 2 * p < 2 by omega), lc_lfz f hf (i - 2 * p) (by omega) (by omega)]
      simp
  · rw [decide_eq_false h, if_neg (by omega)]
    simp
theorem lc_qs_s (x : Int64) {p f : Nat} (hp : p < 24) (hf : f < 4) : lc_q (lc_qs x p f) p = lN f := by
  apply lc_lext
  intro i hi
  rw [lc_q_b _ hp hi]
  by_cases h : i < 2
  · rw [decide_eq_true h, Bool.true_and, lc_qs_b x hp hf (by omega), if_pos (by omega), show 2 * p + i - 2 * p = i by omega]
  · rw [decide_eq_false h, Bool.false_and, lc_lfz f hf i hi (by omega)]
theorem lc_qs_n (x : Int64) {p f j : Nat} (hp : p < 24) (hf : f < 4) (hj : j < 24) (h : j ≠ p) : lc_q (lc_qs x p f) j = lc_q x j := by
  apply lc_lext
  intro i hi
  rw [lc_q_b _ hj hi, lc_q_b _ hj hi]
  by_cases h : i < 2
  · rw [decide_eq_true h, Bool.true_and, Bool.true_and, lc_qs_b x hp hf (by omega), if_neg (by omega)]
  · rw [decide_eq_false h, Bool.false_and, Bool.false_and]
end
section
/-! the law's check of each point (printed by wip/D-10028/gen.py out of 09.law1.tmpl) -/
section
variable {n : Nat} {K A B : Nat → Nat} {post : Int32 → Prop} {L : Nat} {xs : Nat → Int32} {x3 x4 : Int32} {x5 : Int64} {x8 x9 x10 x12 x13 : Int32} {kc ks p : Nat} {c0 c1 c2 c3 : Int32} {e1 e2 e3 e4 e5 e6 e7 e8 e9 e10 e11 : Nat → Int32} {d0 d1 d2 d3 : Int32} {f1 f2 f3 f4 f5 f6 f7 f8 f9 f10 f11 : Nat → Int32}
theorem lc_w_517 {J : Int32 → Int32 → Int32 → Int32 → Int32 → Int32 → Int32 → Int32 → (Nat → Int32) → (Nat → Int32) → (Nat → Int32) → (Nat → Int32) → (Nat → Int32) → (Nat → Int32) → (Nat → Int32) → (Nat → Int32) → (Nat → Int32) → (Nat → Int32) → (Nat → Int32) → Int32 → Int32 → Int32 → Int32 → (Nat → Int32) → (Nat → Int32) → (Nat → Int32) → (Nat → Int32) → (Nat → Int32) → (Nat → Int32) → (Nat → Int32) → (Nat → Int32) → (Nat → Int32) → (Nat → Int32) → (Nat → Int32) → Prop} (hn : n ≤ 24) (w : lc_wf n K A B) (hp : p < n) (hR : lc_B (lc_R n K A p) x13) (h : lc_Ok n K A B (c0, c1, c2, c3, e1, e2, e3, e4, e5, e6, e7, e8, e9, e10, e11)) (H : ∀ c0' c1' c2' c3' e1' e2' e3' e4' e5' e6' e7' e8' e9' e10' e11', lc_Ok n K A B (c0', c1', c2', c3', e1', e2', e3', e4', e5', e6', e7', e8', e9', e10', e11') → J x8 x9 x10 (nI (p + 1)) c0' c1' c2' c3' e1' e2' e3' e4' e5' e6' e7' e8' e9' e10' e11' d0 d1 d2 d3 f1 f2 f3 f4 f5 f6 f7 f8 f9 f10 f11) :
    ∃ fu, wL_law_517 post L xs J x3 x4 x5 (nI n) x8 x9 x10 (nI p) x13 kc ks fu 0 c0 c1 c2 c3 e1 e2 e3 e4 e5 e6 e7 e8 e9 e10 e11 d0 d1 d2 d3 f1 f2 f3 f4 f5 f6 f7 f8 f9 f10 f11 := by
  refine pk_loop (fun m r (s : St1) => match s with | (c0', c1', c2', c3', e1', e2', e3', e4', e5', e6', e7', e8', e9', e10', e11') => wL_law_517 post L xs J x3 x4 x5 (nI n) x8 x9 x10 (nI p) x13 kc ks m (nI r) c0' c1' c2' c3' e1' e2' e3' e4' e5' e6' e7' e8' e9' e10' e11' d0 d1 d2 d3 f1 f2 f3 f4 f5 f6 f7 f8 f9 f10 f11) (fun _ s => lc_Ok n K A B s) 4 0 (c0, c1, c2, c3, e1, e2, e3, e4, e5, e6, e7, e8, e9, e10, e11) (by omega) h ?_ ?_
  · rintro m ⟨c0', c1', c2', c3', e1', e2', e3', e4', e5', e6', e7', e8', e9', e10', e11'⟩ hs
    dsimp only at hs ⊢
    exact pk_le 4 4 (fun _ => nm_r (nI_1 p) (H _ _ _ _ _ _ _ _ _ _ _ _ _ _ _ hs)) (fun z => absurd z (by omega))
  · rintro m r ⟨c0, c1, c2, c3, e1, e2, e3, e4, e5, e6, e7, e8, e9, e10, e11⟩ hr hs hw
    dsimp only at hs hw ⊢
    have b554 : ∀ (z y : Int32) c0' c1' c2' c3' e1' e2' e3' e4' e5' e6' e7' e8' e9' e10' e11', lc_Ok n K A B (c0', c1', c2', c3', e1', e2', e3', e4', e5', e6', e7', e8', e9', e10', e11') → lc_B (lc_R n K A p) z → (∀ b, b < 32 → (lc_bt y b = true ↔ b < 24 ∧ lc_H n K A B b p r)) → wL_law_554 post L xs J (wL_law_517 post L xs J x3 x4 x5 (nI n) x8 x9 x10 (nI p) x13 kc ks m) x3 x4 x5 (nI n) x8 x9 x10 (nI p) x13 (nI r) y z kc ks c0' c1' c2' c3' e1' e2' e3' e4' e5' e6' e7' e8' e9' e10' e11' d0 d1 d2 d3 f1 f2 f3 f4 f5 f6 f7 f8 f9 f10 f11 := by
      intro z y c0' c1' c2' c3' e1' e2' e3' e4' e5' e6' e7' e8' e9' e10' e11' hu hz hy
      unfold wL_law_554
      refine br_t (lc_B_e hz hR Iff.rfl) (br_t ((lc_sh0 y n (by omega)).mpr (fun i h1 h2 v => ?_)) (lc_w_wanted hu hp hr (fun v u' hv hu' => ?_)))
      · obtain ⟨v1, v2⟩ := (hy i h2).mp v
        have := lc_H_n v2 v1
        omega
      · obtain ⟨c0', c1', c2', c3', e1', e2', e3', e4', e5', e6', e7', e8', e9', e10', e11'⟩ := u'
        have hu2 := lc_O1_k hu'
        rcases hv with ⟨rfl, hv⟩ | ⟨rfl, hv⟩
        · exact br_f (by decide) (br_f (fun q => (lc_B_0 hR).mp q hv.1) (nm_r (nI_1 r) (hw (c0', c1', c2', c3', e1', e2', e3', e4', e5', e6', e7', e8', e9', e10', e11') hu2)))
        · exact br_t rfl (nm_r (nI_1 r) (hw (c0', c1', c2', c3', e1', e2', e3', e4', e5', e6', e7', e8', e9', e10', e11') hu2))
    refine pk_le 4 r (fun z => absurd z (by omega)) (fun _ => lc_w_holds hs hp hr (fun y u' hy hu => ?_))
    obtain ⟨c0', c1', c2', c3', e1', e2', e3', e4', e5', e6', e7', e8', e9', e10', e11'⟩ := u'
    have hu2 := lc_O1_k hu
    refine br_c (fun z => lc_w_free hu2 hp hr (fun v u2 hv hu' => ?_)) (fun z => b554 1 y _ _ _ _ _ _ _ _ _ _ _ _ _ _ _ hu2 (Or.inl ⟨rfl, ?_⟩) hy)
    · obtain ⟨c0', c1', c2', c3', e1', e2', e3', e4', e5', e6', e7', e8', e9', e10', e11'⟩ := u2
      have hu3 := lc_O1_k hu'
      rcases hv with ⟨rfl, hv⟩ | ⟨rfl, hv⟩
      · exact br_f (by decide) (b554 1 y _ _ _ _ _ _ _ _ _ _ _ _ _ _ _ hu3 (Or.inl ⟨rfl, lc_H_R hv⟩) hy)
      · refine br_t rfl (b554 0 y _ _ _ _ _ _ _ _ _ _ _ _ _ _ _ hu3 (Or.inr ⟨rfl, fun q => ?_⟩) hy)
        obtain ⟨b, hb⟩ := lc_H_ne w q r hr
        have hb24 := lc_H_24 hb
        by_cases e : b = 24
        · rw [e] at hb; exact hv hb
        · exact lc_eq0.mp z b (by omega) ((hy b (by omega)).mpr ⟨by omega, hb⟩)
    · obtain ⟨b, hb, v⟩ := lc_ne0.mp z
      exact lc_H_R ((hy b hb).mp v).2
theorem lc_w_429 {J : Int32 → Int32 → Int32 → Int32 → Int32 → Int32 → Int32 → Int32 → (Nat → Int32) → (Nat → Int32) → (Nat → Int32) → (Nat → Int32) → (Nat → Int32) → (Nat → Int32) → (Nat → Int32) → (Nat → Int32) → (Nat → Int32) → (Nat → Int32) → (Nat → Int32) → Int32 → Int32 → Int32 → Int32 → (Nat → Int32) → (Nat → Int32) → (Nat → Int32) → (Nat → Int32) → (Nat → Int32) → (Nat → Int32) → (Nat → Int32) → (Nat → Int32) → (Nat → Int32) → (Nat → Int32) → (Nat → Int32) → Prop} (w : lc_wf n K A B) (hp : p < n) (hC : lc_CF n K A B p x12) (hR : lc_B (lc_R n K A p) x13) (h : lc_Ok n K A B (c0, c1, c2, c3, e1, e2, e3, e4, e5, e6, e7, e8, e9, e10, e11)) (H : ∀ c0' c1' c2' c3' e1' e2' e3' e4' e5' e6' e7' e8' e9' e10' e11', lc_Ok n K A B (c0', c1', c2', c3', e1', e2', e3', e4', e5', e6', e7', e8', e9', e10', e11') → J x8 x9 x10 (nI (p + 1)) c0' c1' c2' c3' e1' e2' e3' e4' e5' e6' e7' e8' e9' e10' e11' d0 d1 d2 d3 f1 f2 f3 f4 f5 f6 f7 f8 f9 f10 f11) :
    ∃ fu, wL_law_429 post L xs J x3 x4 x5 (nI n) x8 x9 x10 (nI p) x12 x13 kc ks fu 0 c0 c1 c2 c3 e1 e2 e3 e4 e5 e6 e7 e8 e9 e10 e11 d0 d1 d2 d3 f1 f2 f3 f4 f5 f6 f7 f8 f9 f10 f11 := by
  have hn := w.1
  refine pk_loop (fun m b (s : St1) => match s with | (c0', c1', c2', c3', e1', e2', e3', e4', e5', e6', e7', e8', e9', e10', e11') => wL_law_429 post L xs J x3 x4 x5 (nI n) x8 x9 x10 (nI p) x12 x13 kc ks m (nI b) c0' c1' c2' c3' e1' e2' e3' e4' e5' e6' e7' e8' e9' e10' e11' d0 d1 d2 d3 f1 f2 f3 f4 f5 f6 f7 f8 f9 f10 f11) (fun _ s => lc_Ok n K A B s) n 0 (c0, c1, c2, c3, e1, e2, e3, e4, e5, e6, e7, e8, e9, e10, e11) (by omega) h ?_ ?_
  · rintro m ⟨c0', c1', c2', c3', e1', e2', e3', e4', e5', e6', e7', e8', e9', e10', e11'⟩ hs
    dsimp only at hs ⊢
    exact pk_le n n (fun _ => lc_w_517 hn w hp hR hs H) (fun z => absurd z (by omega))
  · rintro m b ⟨c0, c1, c2, c3, e1, e2, e3, e4, e5, e6, e7, e8, e9, e10, e11⟩ hb hs hw
    dsimp only at hs hw ⊢
    refine pk_le n b (fun z => absurd z (by omega)) (fun _ => lc_w_shown hs hb hp (fun y u' hy hu => ?_))
    obtain ⟨c0', c1', c2', c3', e1', e2', e3', e4', e5', e6', e7', e8', e9', e10', e11'⟩ := u'
    have t := (lc_t1 x12 b (by omega)).trans (hC b (by omega))
    rcases hy with ⟨rfl, hy⟩ | ⟨d, d1, d2, rfl, hy⟩
    · refine br_f (fun z => hy (t.mp z)) ?_
      unfold wL_law_462
      refine br_t rfl ?_
      unfold wL_law_478
      exact br_t rfl (br_t rfl (nm_r (nI_1 b) (hw (c0', c1', c2', c3', e1', e2', e3', e4', e5', e6', e7', e8', e9', e10', e11') hu)))
    · refine br_t (t.mpr hy) ?_
      unfold wL_law_462
      refine br_f (fun z => absurd (show nI d < 0 by rw [z]; decide) (nI_pos (by omega))) ?_
      unfold wL_law_478
      refine br_t rfl (br_f (by decide) (br_f (nI_nlt (b := 3) d1 (by omega)) (lc_w_span hu hb (fun v u2 hv hu2 => ?_))))
      obtain ⟨c0', c1', c2', c3', e1', e2', e3', e4', e5', e6', e7', e8', e9', e10', e11'⟩ := u2
      have q : lc_bt v p = true := (hv p (by omega)).mpr ⟨hp, by
        obtain ⟨r, hr, q1, q2⟩ := lc_C_sp w hy
        exact ⟨r, hr, q2, q1⟩⟩
      exact br_f (fun z => (lc_t0 v p (by omega)).mp z q) (nm_r (nI_1 b) (hw (c0', c1', c2', c3', e1', e2', e3', e4', e5', e6', e7', e8', e9', e10', e11') (lc_O1_k hu2)))
theorem lc_w_405 {J : Int32 → Int32 → Int32 → Int32 → Int32 → Int32 → Int32 → Int32 → (Nat → Int32) → (Nat → Int32) → (Nat → Int32) → (Nat → Int32) → (Nat → Int32) → (Nat → Int32) → (Nat → Int32) → (Nat → Int32) → (Nat → Int32) → (Nat → Int32) → (Nat → Int32) → Int32 → Int32 → Int32 → Int32 → (Nat → Int32) → (Nat → Int32) → (Nat → Int32) → (Nat → Int32) → (Nat → Int32) → (Nat → Int32) → (Nat → Int32) → (Nat → Int32) → (Nat → Int32) → (Nat → Int32) → (Nat → Int32) → Prop} (w : lc_wf n K A B) (hp : p < n) (hus : ∀ p, p < 32 → (lc_bt x4 p = true ↔ p < n ∧ K p = 7)) (hC : lc_CF n K A B p x12) (hR : lc_B (lc_R n K A p) x13) (h : lc_Ok n K A B (c0, c1, c2, c3, e1, e2, e3, e4, e5, e6, e7, e8, e9, e10, e11)) (H : ∀ c0' c1' c2' c3' e1' e2' e3' e4' e5' e6' e7' e8' e9' e10' e11', lc_Ok n K A B (c0', c1', c2', c3', e1', e2', e3', e4', e5', e6', e7', e8', e9', e10', e11') → J x8 x9 x10 (nI (p + 1)) c0' c1' c2' c3' e1' e2' e3' e4' e5' e6' e7' e8' e9' e10' e11' d0 d1 d2 d3 f1 f2 f3 f4 f5 f6 f7 f8 f9 f10 f11) :
    wL_law_405 post L xs J x3 x4 x5 (nI n) x8 x9 x10 (nI p) x12 x13 kc ks c0 c1 c2 c3 e1 e2 e3 e4 e5 e6 e7 e8 e9 e10 e11 d0 d1 d2 d3 f1 f2 f3 f4 f5 f6 f7 f8 f9 f10 f11 := by
  have hn := w.1
  unfold wL_law_405
  refine lc_w_idle h hp (fun y u' hy hu => ?_)
  obtain ⟨c0', c1', c2', c3', e1', e2', e3', e4', e5', e6', e7', e8', e9', e10', e11'⟩ := u'
  have hu2 := lc_O1_k hu
  rcases hy with ⟨rfl, hy⟩ | ⟨rfl, hy⟩
  · exact br_f (by decide) (br_f (fun z => (lc_t0 x4 p (by omega)).mp z ((hus p (by omega)).mpr ⟨hp, hy.1⟩)) (lc_w_429 w hp hC hR hu2 H))
  · exact br_t rfl (lc_w_429 w hp hC hR hu2 H)
theorem lc_ff_f {F : Nat → Prop} {p : Nat} {x : Int32} (h : lc_ff F p x) (hf : ¬ F p) : lc_ff F (p + 1) x := by
  rcases h with ⟨h1, h2⟩ | ⟨j, h1, h2⟩
  · refine Or.inl ⟨h1, fun j hj => ?_⟩
    by_cases e : j = p
    · rw [e]; exact hf
    · exact h2 j (by omega)
  · exact Or.inr ⟨j, by omega, h2⟩
theorem lc_w_351 {J : Int32 → Int32 → Int32 → Int32 → Int32 → Int32 → Int32 → Int32 → (Nat → Int32) → (Nat → Int32) → (Nat → Int32) → (Nat → Int32) → (Nat → Int32) → (Nat → Int32) → (Nat → Int32) → (Nat → Int32) → (Nat → Int32) → (Nat → Int32) → (Nat → Int32) → Int32 → Int32 → Int32 → Int32 → (Nat → Int32) → (Nat → Int32) → (Nat → Int32) → (Nat → Int32) → (Nat → Int32) → (Nat → Int32) → (Nat → Int32) → (Nat → Int32) → (Nat → Int32) → (Nat → Int32) → (Nat → Int32) → Prop} {z : Int32} (w : lc_wf n K A B) (hp : p < n) (hus : ∀ p, p < 32 → (lc_bt x4 p = true ↔ p < n ∧ K p = 7)) (hC : lc_CF n K A B p x12) (hR : lc_B (lc_R n K A p) x13) (hz : lc_B (lc_F n K A B p) z) (hx9 : lc_ff (lc_F n K A B) p x9) (h : lc_Ok n K A B (c0, c1, c2, c3, e1, e2, e3, e4, e5, e6, e7, e8, e9, e10, e11))
    (H : ∀ y c0' c1' c2' c3' e1' e2' e3' e4' e5' e6' e7' e8' e9' e10' e11', lc_ff (lc_F n K A B) (p + 1) y → lc_Ok n K A B (c0', c1', c2', c3', e1', e2', e3', e4', e5', e6', e7', e8', e9', e10', e11') → J (nI (lc_cn (lc_F n K A B) (p + 1))) y (x10 ||| x12) (nI (p + 1)) c0' c1' c2' c3' e1' e2' e3' e4' e5' e6' e7' e8' e9' e10' e11' d0 d1 d2 d3 f1 f2 f3 f4 f5 f6 f7 f8 f9 f10 f11) :
    wL_law_351 post L xs J x3 x4 x5 (nI n) (nI (lc_cn (lc_F n K A B) p)) x9 x10 (nI p) x12 x13 z kc ks c0 c1 c2 c3 e1 e2 e3 e4 e5 e6 e7 e8 e9 e10 e11 d0 d1 d2 d3 f1 f2 f3 f4 f5 f6 f7 f8 f9 f10 f11 := by
  have hn := w.1
  have b386 : ∀ y, lc_ff (lc_F n K A B) (p + 1) y → wL_law_386 post L xs J x3 x4 x5 (nI n) (nI (lc_cn (lc_F n K A B) (p + 1))) x10 (nI p) x12 x13 z y kc ks c0 c1 c2 c3 e1 e2 e3 e4 e5 e6 e7 e8 e9 e10 e11 d0 d1 d2 d3 f1 f2 f3 f4 f5 f6 f7 f8 f9 f10 f11 := fun y hy => by
    unfold wL_law_386
    have q := lc_w_405 (post := post) (L := L) (xs := xs) (x3 := x3) (x5 := x5) (x8 := nI (lc_cn (lc_F n K A B) (p + 1))) (x9 := y) (x10 := x10 ||| x12) (kc := kc) (ks := ks) (J := J) w hp hus hC hR h (fun c0' c1' c2' c3' e1' e2' e3' e4' e5' e6' e7' e8' e9' e10' e11' hu => H y c0' c1' c2' c3' e1' e2' e3' e4' e5' e6' e7' e8' e9' e10' e11' hy hu)
    refine nm_e (br_c (fun v => br_t ((lc_B_0 hz).mpr (fun f => (lc_B_0 hR).mp v (lc_F_R f))) q) (fun _ => q))
  unfold wL_law_351
  rcases hz with ⟨rfl, hz⟩ | ⟨rfl, hz⟩
  · refine br_f (by decide) ?_
    rw [nI_1, ← lc_cn_t hz]
    unfold wL_law_367
    refine br_f (by decide) ?_
    rcases hx9 with ⟨rfl, h9⟩ | ⟨j, h1, h2, h3, rfl⟩
    · exact br_f (by decide) (b386 (nI p) (Or.inr ⟨p, by omega, hz, h9, rfl⟩))
    · exact br_t (nI_pos' (by omega)) (b386 (nI j) (Or.inr ⟨j, by omega, h2, h3, rfl⟩))
  · refine br_t rfl ?_
    rw [← lc_cn_f hz]
    unfold wL_law_367
    exact br_t rfl (b386 x9 (lc_ff_f hx9 hz))
theorem lc_w_300 (w : lc_wf n K A B) (hus : ∀ p, p < 32 → (lc_bt x4 p = true ↔ p < n ∧ K p = 7)) (h : lc_Ok n K A B (c0, c1, c2, c3, e1, e2, e3, e4, e5, e6, e7, e8, e9, e10, e11))
    (H : ∀ y all c0' c1' c2' c3' e1' e2' e3' e4' e5' e6' e7' e8' e9' e10' e11', lc_ff (lc_F n K A B) n y → (∀ b, b < 32 → (lc_bt all b = true ↔ lc_A n K A B b)) → lc_Ok n K A B (c0', c1', c2', c3', e1', e2', e3', e4', e5', e6', e7', e8', e9', e10', e11') → ∃ fu, wL_law_603 post L xs x3 x4 x5 (nI n) (nI (lc_cn (lc_F n K A B) n)) y all kc ks c0' c1' c2' c3' e1' e2' e3' e4' e5' e6' e7' e8' e9' e10' e11' d0 d1 d2 d3 f1 f2 f3 f4 f5 f6 f7 f8 f9 f10 f11 fu 0 0) :
    ∃ fu, wL_law_300 post L xs x3 x4 x5 (nI n) kc ks fu 0 (-3) 0 0 c0 c1 c2 c3 e1 e2 e3 e4 e5 e6 e7 e8 e9 e10 e11 d0 d1 d2 d3 f1 f2 f3 f4 f5 f6 f7 f8 f9 f10 f11 := by
  have hn := w.1
  refine pk_loop (fun m p (s : Int32 × Int32 × Int32 × St1) => match s with | (x8, x9, x10, c0', c1', c2', c3', e1', e2', e3', e4', e5', e6', e7', e8', e9', e10', e11') => wL_law_300 post L xs x3 x4 x5 (nI n) kc ks m x8 x9 x10 (nI p) c0' c1' c2' c3' e1' e2' e3' e4' e5' e6' e7' e8' e9' e10' e11' d0 d1 d2 d3 f1 f2 f3 f4 f5 f6 f7 f8 f9 f10 f11) (fun p s => s.1 = nI (lc_cn (lc_F n K A B) p) ∧ lc_ff (lc_F n K A B) p s.2.1 ∧ (∀ b, b < 32 → (lc_bt s.2.2.1 b = true ↔ ∃ p', p' < p ∧ lc_C n K A B b p')) ∧ lc_Ok n K A B s.2.2.2) n 0 (0, -3, 0, c0, c1, c2, c3, e1, e2, e3, e4, e5, e6, e7, e8, e9, e10, e11) (by omega)
    ⟨rfl, Or.inl ⟨rfl, fun j hj => absurd hj (by omega)⟩, fun b _ => ⟨fun z => absurd z lc_0F, fun ⟨p', z, _⟩ => absurd z (by omega)⟩, h⟩ ?_ ?_
  · rintro m ⟨x8, x9, x10, c0', c1', c2', c3', e1', e2', e3', e4', e5', e6', e7', e8', e9', e10', e11'⟩ ⟨h1, h2, h3, h4⟩
    dsimp only at h1 h2 h3 h4 ⊢
    subst h1
    exact pk_le n n (fun _ => H x9 x10 c0' c1' c2' c3' e1' e2' e3' e4' e5' e6' e7' e8' e9' e10' e11' h2 h3 h4) (fun z => absurd z (by omega))
  · rintro m p ⟨x8, x9, x10, c0, c1, c2, c3, e1, e2, e3, e4, e5, e6, e7, e8, e9, e10, e11⟩ hp ⟨h1, h2, h3, h4⟩ hw
    dsimp only at h1 h2 h3 h4 hw ⊢
    subst h1
    refine pk_le n p (fun z => absurd z (by omega)) (fun _ => lc_w_conflicts h4 hp (fun x12 u hC hu => ?_))
    obtain ⟨c0, c1, c2, c3, e1, e2, e3, e4, e5, e6, e7, e8, e9, e10, e11⟩ := u
    refine lc_w_reached (lc_O1_k hu) hp (fun x13 u hR hu => ?_)
    obtain ⟨c0, c1, c2, c3, e1, e2, e3, e4, e5, e6, e7, e8, e9, e10, e11⟩ := u
    have b351 : ∀ z c0' c1' c2' c3' e1' e2' e3' e4' e5' e6' e7' e8' e9' e10' e11', lc_B (lc_F n K A B p) z → lc_Ok n K A B (c0', c1', c2', c3', e1', e2', e3', e4', e5', e6', e7', e8', e9', e10', e11') → wL_law_351 post L xs (wL_law_300 post L xs x3 x4 x5 (nI n) kc ks m) x3 x4 x5 (nI n) (nI (lc_cn (lc_F n K A B) p)) x9 x10 (nI p) x12 x13 z kc ks c0' c1' c2' c3' e1' e2' e3' e4' e5' e6' e7' e8' e9' e10' e11' d0 d1 d2 d3 f1 f2 f3 f4 f5 f6 f7 f8 f9 f10 f11 := by
      intro z c0' c1' c2' c3' e1' e2' e3' e4' e5' e6' e7' e8' e9' e10' e11' hz hX
      refine lc_w_351 w hp hus hC hR hz h2 hX (fun y d0' d1' d2' d3' f1' f2' f3' f4' f5' f6' f7' f8' f9' f10' f11' hy hY => hw (_, y, x10 ||| x12, d0', d1', d2', d3', f1', f2', f3', f4', f5', f6', f7', f8', f9', f10', f11') ⟨rfl, hy, fun b hb => ?_, hY⟩)
      dsimp only
      rw [lc_orT, h3 b hb, hC b hb]
      constructor
      · rintro (⟨p', q1, q2⟩ | q)
        · exact ⟨p', by omega, q2⟩
        · exact ⟨p, by omega, q⟩
      · rintro ⟨p', q1, q2⟩
        by_cases e : p' = p
        · rw [e] at q2; exact Or.inr q2
        · exact Or.inl ⟨p', by omega, q2⟩
    have hCF := lc_CF_0 w hC
    refine br_c (fun z => lc_w_unset (lc_O1_k hu) hp (fun v u hv hu => ?_)) (fun z => b351 1 _ _ _ _ _ _ _ _ _ _ _ _ _ _ _ (Or.inl ⟨rfl, Or.inl (hCF.mp z)⟩) (lc_O1_k hu))
    obtain ⟨c0, c1, c2, c3, e1, e2, e3, e4, e5, e6, e7, e8, e9, e10, e11⟩ := u
    rcases hv with ⟨rfl, hv⟩ | ⟨rfl, hv⟩
    · exact br_f (by decide) (b351 1 _ _ _ _ _ _ _ _ _ _ _ _ _ _ _ (Or.inl ⟨rfl, Or.inr (Or.inl hv)⟩) (lc_O1_k hu))
    · refine br_t rfl (lc_w_idle (lc_O1_k hu) hp (fun y u hy hu => ?_))
      obtain ⟨c0, c1, c2, c3, e1, e2, e3, e4, e5, e6, e7, e8, e9, e10, e11⟩ := u
      rcases hy with ⟨rfl, hy⟩ | ⟨rfl, hy⟩
      · exact br_f (by decide) (b351 1 _ _ _ _ _ _ _ _ _ _ _ _ _ _ _ (Or.inl ⟨rfl, Or.inr (Or.inr hy)⟩) (lc_O1_k hu))
      · refine br_t rfl (b351 0 _ _ _ _ _ _ _ _ _ _ _ _ _ _ _ (Or.inr ⟨rfl, ?_⟩) (lc_O1_k hu))
        rintro (q | q | q)
        · exact hCF.mpr q z
        · exact hv q
        · exact hy q
end
end
section
/-! the law's end: the counts, USE made RELEASE, the comparison (printed by gen.py out of 10.law2.tmpl) -/
theorem lc_A_n {n : Nat} {K A B : Nat → Nat} {b : Nat} (h : lc_A n K A B b) : b < n := by
  obtain ⟨p, _, h⟩ := h
  exact h.1
section
variable {n : Nat} {K K' A B B' : Nat → Nat} {post : Int32 → Prop} {L : Nat} {xs : Nat → Int32} {x3 x4 : Int32} {x5 : Int64} {x8 x9 x10 : Int32} {kc ks : Nat} {c0 c1 c2 c3 : Int32} {e1 e2 e3 e4 e5 e6 e7 e8 e9 e10 e11 : Nat → Int32} {d0 d1 d2 d3 : Int32} {f1 f2 f3 f4 f5 f6 f7 f8 f9 f10 f11 : Nat → Int32}
theorem lc_w_758 (w : lc_wf n K A B) (hrl : lc_rl n K K' B B') (hc : lc_Ok n K A B (c0, c1, c2, c3, e1, e2, e3, e4, e5, e6, e7, e8, e9, e10, e11)) (hd : lc_Ok n K' A B' (d0, d1, d2, d3, f1, f2, f3, f4, f5, f6, f7, f8, f9, f10, f11)) (H : post 1) :
    ∃ fu, wL_law_758 post L xs (nI n) (nI (lc_cn (lc_A n K A B) n)) kc ks fu 0 c0 c1 c2 c3 e1 e2 e3 e4 e5 e6 e7 e8 e9 e10 e11 d0 d1 d2 d3 f1 f2 f3 f4 f5 f6 f7 f8 f9 f10 f11 := by
  have hn := w.1
  refine pk_loop (fun m p (s : St1 × St1) => match s with | ((c0', c1', c2', c3', e1', e2', e3', e4', e5', e6', e7', e8', e9', e10', e11'), (d0', d1', d2', d3', f1', f2', f3', f4', f5', f6', f7', f8', f9', f10', f11')) => wL_law_758 post L xs (nI n) (nI (lc_cn (lc_A n K A B) n)) kc ks m (nI p) c0' c1' c2' c3' e1' e2' e3' e4' e5' e6' e7' e8' e9' e10' e11' d0' d1' d2' d3' f1' f2' f3' f4' f5' f6' f7' f8' f9' f10' f11') (fun _ s => lc_Ok n K A B s.1 ∧ lc_Ok n K' A B' s.2) n 0 ((c0, c1, c2, c3, e1, e2, e3, e4, e5, e6, e7, e8, e9, e10, e11), (d0, d1, d2, d3, f1, f2, f3, f4, f5, f6, f7, f8, f9, f10, f11)) (by omega) ⟨hc, hd⟩ ?_ ?_
  · rintro m ⟨⟨c0', c1', c2', c3', e1', e2', e3', e4', e5', e6', e7', e8', e9', e10', e11'⟩, ⟨d0', d1', d2', d3', f1', f2', f3', f4', f5', f6', f7', f8', f9', f10', f11'⟩⟩ ⟨h1, h2⟩
    dsimp only at h1 h2 ⊢
    refine pk_le n n (fun _ => lc_w_broken h2 (fun u hu => ?_)) (fun z => absurd z (by omega))
    obtain ⟨d0', d1', d2', d3', f1', f2', f3', f4', f5', f6', f7', f8', f9', f10', f11'⟩ := u
    have hb := lc_cn_b (lc_A n K A B) n
    have le : lc_cn (lc_A n K' A B') n ≤ lc_cn (lc_A n K A B) n := lc_cn_le (fun b _ => fun ⟨p, hp, hC⟩ => ⟨p, hp, lc_rl_C w hrl hC⟩)
    exact br_f (nI_nlt le (by omega)) (lc_w_points h1 (br_t rfl H))
  · rintro m p ⟨⟨c0, c1, c2, c3, e1, e2, e3, e4, e5, e6, e7, e8, e9, e10, e11⟩, ⟨d0, d1, d2, d3, f1, f2, f3, f4, f5, f6, f7, f8, f9, f10, f11⟩⟩ hp ⟨h1, h2⟩ hw
    dsimp only at h1 h2 hw ⊢
    refine pk_le n p (fun z => absurd z (by omega)) (fun _ => lc_w_conflicts h1 hp (fun x u hx hu => ?_))
    obtain ⟨c0, c1, c2, c3, e1, e2, e3, e4, e5, e6, e7, e8, e9, e10, e11⟩ := u
    refine lc_w_conflicts h2 hp (fun y u hy hv => ?_)
    obtain ⟨d0, d1, d2, d3, f1, f2, f3, f4, f5, f6, f7, f8, f9, f10, f11⟩ := u
    refine br_t (lc_eq0.mpr (fun b hb z => ?_)) (lc_w_reached (lc_O1_k hv) hp (fun r u hr hv => ?_))
    · obtain ⟨z1, z2⟩ := lc_andT.mp z
      exact (lc_notT x hb).mp z2 ((hx b hb).mpr (lc_rl_C w hrl ((hy b hb).mp z1)))
    · obtain ⟨d0, d1, d2, d3, f1, f2, f3, f4, f5, f6, f7, f8, f9, f10, f11⟩ := u
      refine lc_w_reached (lc_O1_k hu) hp (fun r' u hr' hu => ?_)
      obtain ⟨c0, c1, c2, c3, e1, e2, e3, e4, e5, e6, e7, e8, e9, e10, e11⟩ := u
      refine br_t (lc_B_e hr hr' (lc_rl_R hrl)) (lc_w_unset (lc_O1_k hv) hp (fun t u ht hv => ?_))
      obtain ⟨d0, d1, d2, d3, f1, f2, f3, f4, f5, f6, f7, f8, f9, f10, f11⟩ := u
      refine lc_w_unset (lc_O1_k hu) hp (fun t' u ht' hu => ?_)
      obtain ⟨c0, c1, c2, c3, e1, e2, e3, e4, e5, e6, e7, e8, e9, e10, e11⟩ := u
      exact br_t (lc_B_e ht ht' (lc_rl_U hrl hp)) (nm_r (nI_1 p) (hw ((c0, c1, c2, c3, e1, e2, e3, e4, e5, e6, e7, e8, e9, e10, e11), (d0, d1, d2, d3, f1, f2, f3, f4, f5, f6, f7, f8, f9, f10, f11)) ⟨lc_O1_k hu, lc_O1_k hv⟩))
theorem lc_w_675 {r0 : Nat} (hr0 : r0 < 3) (w : lc_wf n K A B) (hus : ∀ p, p < 32 → (lc_bt x4 p = true ↔ p < n ∧ K p = 7)) (huq : ∀ p, p < n → K p = 7 → (lc_q x5 p).toInt32 = nI (A p)) (hc : lc_Ok n K A B (c0, c1, c2, c3, e1, e2, e3, e4, e5, e6, e7, e8, e9, e10, e11)) (hd : lc_Ok n K A B (d0, d1, d2, d3, f1, f2, f3, f4, f5, f6, f7, f8, f9, f10, f11)) (H : post 1) :
    ∃ fu, wL_law_675 post L xs x4 x5 (nI n) (nI (lc_cn (lc_A n K A B) n)) (nI r0) kc ks fu 0 c0 c1 c2 c3 e1 e2 e3 e4 e5 e6 e7 e8 e9 e10 e11 d0 d1 d2 d3 f1 f2 f3 f4 f5 f6 f7 f8 f9 f10 f11 := by
  have hn := w.1
  refine pk_loop (fun m p (s : St1) => match s with | (d0', d1', d2', d3', f1', f2', f3', f4', f5', f6', f7', f8', f9', f10', f11') => wL_law_675 post L xs x4 x5 (nI n) (nI (lc_cn (lc_A n K A B) n)) (nI r0) kc ks m (nI p) c0 c1 c2 c3 e1 e2 e3 e4 e5 e6 e7 e8 e9 e10 e11 d0' d1' d2' d3' f1' f2' f3' f4' f5' f6' f7' f8' f9' f10' f11') (fun p s => ∃ K' B', lc_rl n K K' B B' ∧ (∀ j, p ≤ j → K' j = K j) ∧ lc_Ok n K' A B' s) n 0 (d0, d1, d2, d3, f1, f2, f3, f4, f5, f6, f7, f8, f9, f10, f11) (by omega) ⟨K, B, fun p _ => Or.inl ⟨rfl, rfl⟩, fun _ _ => rfl, hd⟩ ?_ ?_
  · rintro m ⟨d0, d1, d2, d3, f1, f2, f3, f4, f5, f6, f7, f8, f9, f10, f11⟩ ⟨K', B', h1, h2, h3⟩
    dsimp only at h3 ⊢
    exact pk_le n n (fun _ => lc_w_758 w h1 hc h3 H) (fun z => absurd z (by omega))
  · rintro m p ⟨d0, d1, d2, d3, f1, f2, f3, f4, f5, f6, f7, f8, f9, f10, f11⟩ hp ⟨K', B', h1, h2, h3⟩ hw
    dsimp only at h3 hw ⊢
    have skip : wL_law_714 post L xs (wL_law_675 post L xs x4 x5 (nI n) (nI (lc_cn (lc_A n K A B) n)) (nI r0) kc ks m) x4 x5 (nI n) (nI (lc_cn (lc_A n K A B) n)) (nI r0) (nI p) kc ks c0 c1 c2 c3 e1 e2 e3 e4 e5 e6 e7 e8 e9 e10 e11 d0 d1 d2 d3 f1 f2 f3 f4 f5 f6 f7 f8 f9 f10 f11 := by
      unfold wL_law_714 wL_law_715
      refine br_t rfl ?_
      unfold wL_law_738
      exact br_t rfl (nm_r (nI_1 p) (hw (d0, d1, d2, d3, f1, f2, f3, f4, f5, f6, f7, f8, f9, f10, f11) ⟨K', B', h1, fun j hj => h2 j (by omega), h3⟩))
    refine pk_le n p (fun z => absurd z (by omega)) (fun _ => br_c (fun z => br_c (fun y => ?_) (fun y => skip)) (fun z => skip))
    have hK : K p = 7 := ((hus p (by omega)).mp ((lc_t1 x4 p (by omega)).mp z)).2
    have hA : A p = r0 := by
      have e : nI (A p) = nI r0 := (huq p hp hK).symm.trans y
      have := (w.2 p hp).2.1
      exact (nI_eq (by omega) (by omega)).mp e
    have hK' : K' p = 7 := (h2 p (Nat.le_refl p)).trans hK
    unfold wL_law_715
    refine br_f (by decide) ?_
    refine lc_w_change (k := 8) (b := 0) h3 hp (by omega) (by omega) (fun _ => by omega) (by omega) (fun u hu => ?_)
    obtain ⟨d0, d1, d2, d3, f1, f2, f3, f4, f5, f6, f7, f8, f9, f10, f11⟩ := u
    rw [hK']
    dsimp only
    unfold wL_law_738
    have eA : lc_up A p r0 = A := by
      funext j
      by_cases e : j = p
      · rw [e, lc_up_s, hA]
      · rw [lc_up_n e]
    rw [eA] at hu
    refine br_t rfl (nm_r (nI_1 p) (hw (d0, d1, d2, d3, f1, f2, f3, f4, f5, f6, f7, f8, f9, f10, f11) ⟨_, _, fun j hj => ?_, fun j hj => ?_, hu⟩))
    · by_cases e : j = p
      · rw [e, lc_up_s]; exact Or.inr ⟨hK, rfl⟩
      · rw [lc_up_n e, lc_up_n e]; exact h1 j hj
    · rw [lc_up_n (by omega)]; exact h2 j (by omega)
theorem lc_w_603 {all : Int32} (w : lc_wf n K A B) (hus : ∀ p, p < 32 → (lc_bt x4 p = true ↔ p < n ∧ K p = 7)) (huq : ∀ p, p < n → K p = 7 → (lc_q x5 p).toInt32 = nI (A p)) (h9 : lc_ff (lc_F n K A B) n x9) (hall : ∀ b, b < 32 → (lc_bt all b = true ↔ lc_A n K A B b)) (hc : lc_Ok n K A B (c0, c1, c2, c3, e1, e2, e3, e4, e5, e6, e7, e8, e9, e10, e11)) (hd : lc_Ok n K A B (d0, d1, d2, d3, f1, f2, f3, f4, f5, f6, f7, f8, f9, f10, f11)) (H : post 1) :
    ∃ fu, wL_law_603 post L xs x3 x4 x5 (nI n) (nI (lc_cn (lc_F n K A B) n)) x9 all kc ks c0 c1 c2 c3 e1 e2 e3 e4 e5 e6 e7 e8 e9 e10 e11 d0 d1 d2 d3 f1 f2 f3 f4 f5 f6 f7 f8 f9 f10 f11 fu 0 0 := by
  have hn := w.1
  refine pk_loop (fun m b s => wL_law_603 post L xs x3 x4 x5 (nI n) (nI (lc_cn (lc_F n K A B) n)) x9 all kc ks c0 c1 c2 c3 e1 e2 e3 e4 e5 e6 e7 e8 e9 e10 e11 d0 d1 d2 d3 f1 f2 f3 f4 f5 f6 f7 f8 f9 f10 f11 m s (nI b)) (fun b s => s = nI (lc_cn (lc_A n K A B) b)) 24 0 0 (by omega) rfl ?_ ?_
  · intro m s hs
    subst hs
    rw [lc_cn_ex (n := n) (m := 24) hn (fun i h1 _ z => by have := lc_A_n z; omega)]
    refine pk_le 24 24 (fun _ => lc_w_faults hc (fun u hu => ?_)) (fun z => absurd z (by omega))
    obtain ⟨c0, c1, c2, c3, e1, e2, e3, e4, e5, e6, e7, e8, e9, e10, e11⟩ := u
    refine br_t rfl (lc_w_firstFault (lc_O1_k hu) (fun y u hy hu => ?_))
    obtain ⟨c0, c1, c2, c3, e1, e2, e3, e4, e5, e6, e7, e8, e9, e10, e11⟩ := u
    refine br_t (lc_ff_u hy h9) (lc_w_broken (lc_O1_k hu) (fun u hu => ?_))
    obtain ⟨c0, c1, c2, c3, e1, e2, e3, e4, e5, e6, e7, e8, e9, e10, e11⟩ := u
    refine br_t rfl (br_t ((lc_sh0 all n (by omega)).mpr (fun i h1 h2 z => ?_)) ⟨by decide, ?_⟩)
    · have := lc_A_n ((hall i h2).mp z)
      omega
    · have e : (x3 &&& 3) - (x3 &&& 3) / 3 * 3 = nI ((x3.toBitVec.toNat % 2 ^ 2) % 3) := by
        rw [pk_and x3 2 (by decide)]
        exact pk_rem (d := 3) (by omega) (by decide) (by decide)
      exact nm_r e (lc_w_675 (Nat.mod_lt _ (by decide)) w hus huq (lc_O1_k hu) hd H)
  · intro m b s hb hs hw
    subst hs
    refine pk_le 24 b (fun z => absurd z (by omega)) (fun _ => nm_r (e' := nI (lc_cn (lc_A n K A B) (b + 1))) ?_ (nm_r (nI_1 b) (hw _ rfl)))
    rw [lc_val all b (by omega), nI_add]
    have t := hall b (by omega)
    rcases Classical.em (lc_A n K A B b) with z | z
    · rw [if_pos (t.mpr z), lc_cn_t z]
    · rw [if_neg (fun y => z (t.mp y)), lc_cn_f z]; rfl
theorem lc_w_281 (w : lc_wf n K A B) (hus : ∀ p, p < 32 → (lc_bt x4 p = true ↔ p < n ∧ K p = 7)) (huq : ∀ p, p < n → K p = 7 → (lc_q x5 p).toInt32 = nI (A p)) (hc : lc_Ok n K A B (c0, c1, c2, c3, e1, e2, e3, e4, e5, e6, e7, e8, e9, e10, e11)) (hd : lc_Ok n K A B (d0, d1, d2, d3, f1, f2, f3, f4, f5, f6, f7, f8, f9, f10, f11)) (H : post 1) :
    wL_law_281 post L xs x3 x4 x5 kc ks c0 c1 c2 c3 e1 e2 e3 e4 e5 e6 e7 e8 e9 e10 e11 d0 d1 d2 d3 f1 f2 f3 f4 f5 f6 f7 f8 f9 f10 f11 := by
  unfold wL_law_281
  exact lc_w_points hc (lc_w_300 w hus hc (fun y all c0' c1' c2' c3' e1' e2' e3' e4' e5' e6' e7' e8' e9' e10' e11' hy hall hX => lc_w_603 w hus huq hy hall hX hd H))
end
end
section
/-! the law's script loop (printed by gen.py out of 11.law3.tmpl) -/
def lc_us (n : Nat) (K A : Nat → Nat) (x4 : Int32) (x5 : Int64) : Prop := (∀ p, p < 32 → (lc_bt x4 p = true ↔ p < n ∧ K p = 7)) ∧ (∀ p, p < n → K p = 7 → (lc_q x5 p).toInt32 = nI (A p))
theorem lc_us_p {n n' : Nat} {K A : Nat → Nat} {x4 y : Int32} {x5 q : Int64} {i k f : Nat} {z : Int32} (h : lc_us n K A x4 x5) (hn : n' ≤ 24) (hi : i < n') (hnn : ∀ p, p ≠ i → (p < n' ↔ p < n)) (hz : z = 1 ↔ k = 7) (hf : k = 7 → f < 4)
    (hy : ∀ p, p < 32 → (lc_bt y p = true ↔ (p = i ∧ z = 1) ∨ (p ≠ i ∧ lc_bt x4 p = true))) (hq : (z = 0 ∧ q = x5) ∨ (z = 1 ∧ q = lc_qs x5 i f)) : lc_us n' (lc_up K i k) (lc_up A i f) y q := by
  refine ⟨fun p hp => ?_, fun p hp hk => ?_⟩
  · rw [hy p hp]
    by_cases e : p = i
    · subst e
      rw [lc_up_s, hz]
      constructor
      · rintro (⟨_, v⟩ | ⟨v, _⟩)
        · exact ⟨hi, v⟩
        · exact absurd rfl v
      · intro v; exact Or.inl ⟨rfl, v.2⟩
    · rw [lc_up_n e, hnn p e, ← h.1 p hp]
      constructor
      · rintro (⟨v, _⟩ | ⟨_, v⟩)
        · exact absurd v e
        · exact v
      · intro v; exact Or.inr ⟨e, v⟩
  · by_cases e : p = i
    · subst e
      rw [lc_up_s] at hk
      rcases hq with ⟨q1, _⟩ | ⟨_, q2⟩
      · have := hz.mpr hk
        rw [q1] at this
        exact absurd this (by decide)
      · rw [q2, lc_qs_s x5 (by omega) (hf hk), lc_up_s, lN_i]
    · rw [lc_up_n e] at hk ⊢
      have hp' := (hnn p e).mp hp
      rcases hq with ⟨_, q1⟩ | ⟨q2, q1⟩
      · rw [q1]; exact h.2 p hp' hk
      · rw [q1, lc_qs_n x5 (by omega) (hf (hz.mp q2)) (by omega) e]; exact h.2 p hp' hk
theorem lc_us_d {n : Nat} {K A : Nat → Nat} {x4 y : Int32} {x5 q : Int64} {z : Int32} {f : Nat} (h : lc_us n K A x4 x5) (hn : n ≤ 24) (hn0 : 0 < n) (hz : z = 0)
    (hy : ∀ p, p < 32 → (lc_bt y p = true ↔ (p = n - 1 ∧ z = 1) ∨ (p ≠ n - 1 ∧ lc_bt x4 p = true))) (hq : (z = 0 ∧ q = x5) ∨ (z = 1 ∧ q = lc_qs x5 (n - 1) f)) : lc_us (n - 1) K A y q := by
  subst hz
  refine ⟨fun p hp => ?_, fun p hp hk => ?_⟩
  · rw [hy p hp]
    constructor
    · rintro (⟨_, v⟩ | ⟨v1, v2⟩)
      · exact absurd v (by decide)
      · have := (h.1 p hp).mp v2
        exact ⟨by omega, this.2⟩
    · intro v; exact Or.inr ⟨by omega, (h.1 p hp).mpr ⟨by omega, v.2⟩⟩
  · rcases hq with ⟨_, q1⟩ | ⟨q2, _⟩
    · rw [q1]; exact h.2 p (by omega) hk
    · exact absurd q2 (by decide)
section
variable {n : Nat} {K A B : Nat → Nat} {post : Int32 → Prop} {L : Nat} {xs : Nat → Int32} {x3 x4 : Int32} {x5 : Int64} {x10 x : Int32} {kc ks k : Nat} {c0 c1 c2 c3 : Int32} {e1 e2 e3 e4 e5 e6 e7 e8 e9 e10 e11 : Nat → Int32} {d0 d1 d2 d3 : Int32} {f1 f2 f3 f4 f5 f6 f7 f8 f9 f10 f11 : Nat → Int32}
theorem lc_w_184 {J : Int32 → Int64 → Int32 → Int32 → Int32 → Int32 → Int32 → (Nat → Int32) → (Nat → Int32) → (Nat → Int32) → (Nat → Int32) → (Nat → Int32) → (Nat → Int32) → (Nat → Int32) → (Nat → Int32) → (Nat → Int32) → (Nat → Int32) → (Nat → Int32) → Int32 → Int32 → Int32 → Int32 → (Nat → Int32) → (Nat → Int32) → (Nat → Int32) → (Nat → Int32) → (Nat → Int32) → (Nat → Int32) → (Nat → Int32) → (Nat → Int32) → (Nat → Int32) → (Nat → Int32) → (Nat → Int32) → Prop} {z : Int32} {i : Nat} (hz : z = 0 ∨ z = 1) (hi : i ≤ 24) (h24 : i = 24 → z = 0)
    (H1 : i < 24 → ∀ y q, (∀ p, p < 32 → (lc_bt y p = true ↔ (p = i ∧ z = 1) ∨ (p ≠ i ∧ lc_bt x4 p = true))) → ((z = 0 ∧ q = x5) ∨ (z = 1 ∧ q = lc_qs x5 i (lc_fs x))) → J y q (nI (k + 2)) c0 c1 c2 c3 e1 e2 e3 e4 e5 e6 e7 e8 e9 e10 e11 d0 d1 d2 d3 f1 f2 f3 f4 f5 f6 f7 f8 f9 f10 f11)
    (H2 : i = 24 → J x4 x5 (nI (k + 2)) c0 c1 c2 c3 e1 e2 e3 e4 e5 e6 e7 e8 e9 e10 e11 d0 d1 d2 d3 f1 f2 f3 f4 f5 f6 f7 f8 f9 f10 f11) :
    wL_law_184 post L xs J x3 x4 x5 (nI k) x x10 x10 (nI i) z kc ks c0 c1 c2 c3 e1 e2 e3 e4 e5 e6 e7 e8 e9 e10 e11 d0 d1 d2 d3 f1 f2 f3 f4 f5 f6 f7 f8 f9 f10 f11 := by
  have b228 : ∀ y, (∀ q, ((z = 0 ∧ q = x5) ∨ (z = 1 ∧ q = lc_qs x5 i (lc_fs x))) → J y q (nI (k + 2)) c0 c1 c2 c3 e1 e2 e3 e4 e5 e6 e7 e8 e9 e10 e11 d0 d1 d2 d3 f1 f2 f3 f4 f5 f6 f7 f8 f9 f10 f11) → wL_law_228 post L xs J x3 x5 (nI k) x10 x10 (nI i) z (nI (lc_fs x)) y kc ks c0 c1 c2 c3 e1 e2 e3 e4 e5 e6 e7 e8 e9 e10 e11 d0 d1 d2 d3 f1 f2 f3 f4 f5 f6 f7 f8 f9 f10 f11 := fun y hq => by
    unfold wL_law_228
    rcases hz with rfl | rfl
    · exact br_t rfl (br_t rfl (nm_r (nI_add k 2) (hq _ (Or.inl ⟨rfl, rfl⟩))))
    · exact br_f (by decide) (br_t rfl (nm_r (nI_add k 2) (hq _ (Or.inr ⟨rfl, rfl⟩))))
  unfold wL_law_184
  refine lc_w_first (pk_le 24 i (fun y => b228 x4 (fun q hq => ?_)) (fun y => br_c (fun v => ?_) (fun v => ?_)))
  · have e : i = 24 := by omega
    rcases hq with ⟨_, hq⟩ | ⟨hq, _⟩
    · rw [hq]; exact H2 e
    · rw [h24 e] at hq; exact absurd hq (by decide)
  · unfold wL_law_222
    refine b228 _ (fun q hq => H1 y _ q (fun p hp => ?_) hq)
    rw [lc_orT, lc_andT, lc_notT _ hp, lc_oneT i (by omega) hp]
    constructor
    · rintro (⟨v1, v2⟩ | v1)
      · exact Or.inr ⟨v2, v1⟩
      · exact absurd v1 lc_0F
    · rintro (⟨_, v2⟩ | ⟨v1, v2⟩)
      · rw [v] at v2; exact absurd v2 (by decide)
      · exact Or.inl ⟨v2, v1⟩
  · have v' : z = 1 := hz.resolve_left v
    unfold wL_law_222
    refine b228 _ (fun q hq => H1 y _ q (fun p hp => ?_) hq)
    rw [lc_orT, lc_andT, lc_notT _ hp, lc_oneT i (by omega) hp]
    constructor
    · rintro (⟨v1, v2⟩ | v1)
      · exact Or.inr ⟨v2, v1⟩
      · exact Or.inl ⟨v1, v'⟩
    · rintro (⟨v1, _⟩ | ⟨v1, v2⟩)
      · exact Or.inr v1
      · exact Or.inl ⟨v2, v1⟩
theorem lc_w_169 {J : Int32 → Int64 → Int32 → Int32 → Int32 → Int32 → Int32 → (Nat → Int32) → (Nat → Int32) → (Nat → Int32) → (Nat → Int32) → (Nat → Int32) → (Nat → Int32) → (Nat → Int32) → (Nat → Int32) → (Nat → Int32) → (Nat → Int32) → (Nat → Int32) → Int32 → Int32 → Int32 → Int32 → (Nat → Int32) → (Nat → Int32) → (Nat → Int32) → (Nat → Int32) → (Nat → Int32) → (Nat → Int32) → (Nat → Int32) → (Nat → Int32) → (Nat → Int32) → (Nat → Int32) → (Nat → Int32) → Prop} {i : Nat} (hi : i < 24)
    (H : ∀ (z y : Int32) q, (z = 1 ↔ lc_kd x = 7) → (∀ p, p < 32 → (lc_bt y p = true ↔ (p = i ∧ z = 1) ∨ (p ≠ i ∧ lc_bt x4 p = true))) → ((z = 0 ∧ q = x5) ∨ (z = 1 ∧ q = lc_qs x5 i (lc_fs x))) → J y q (nI (k + 2)) c0 c1 c2 c3 e1 e2 e3 e4 e5 e6 e7 e8 e9 e10 e11 d0 d1 d2 d3 f1 f2 f3 f4 f5 f6 f7 f8 f9 f10 f11) :
    wL_law_169 post L xs J x3 x4 x5 (nI k) x x10 x10 (nI i) kc ks c0 c1 c2 c3 e1 e2 e3 e4 e5 e6 e7 e8 e9 e10 e11 d0 d1 d2 d3 f1 f2 f3 f4 f5 f6 f7 f8 f9 f10 f11 := by
  have hk := lc_kd_b x
  unfold wL_law_169
  refine lc_w_kind (pk_eq (lc_kd x) 7 (fun v => ?_) (fun v => ?_))
  · exact lc_w_184 (Or.inr rfl) (by omega) (fun e => absurd e (by omega)) (fun _ y q h1 h2 => H 1 y q ⟨fun _ => v, fun _ => rfl⟩ h1 h2) (fun e => absurd e (by omega))
  · exact lc_w_184 (Or.inl rfl) (by omega) (fun _ => rfl) (fun _ y q h1 h2 => H 0 y q ⟨fun u => absurd u (by decide), fun u => absurd u v⟩ h1 h2) (fun e => absurd e (by omega))
/-- behind the two turns: the uses follow the picture -/
theorem lc_w_turned {J : Int32 → Int64 → Int32 → Int32 → Int32 → Int32 → Int32 → (Nat → Int32) → (Nat → Int32) → (Nat → Int32) → (Nat → Int32) → (Nat → Int32) → (Nat → Int32) → (Nat → Int32) → (Nat → Int32) → (Nat → Int32) → (Nat → Int32) → (Nat → Int32) → Int32 → Int32 → Int32 → Int32 → (Nat → Int32) → (Nat → Int32) → (Nat → Int32) → (Nat → Int32) → (Nat → Int32) → (Nat → Int32) → (Nat → Int32) → (Nat → Int32) → (Nat → Int32) → (Nat → Int32) → (Nat → Int32) → Prop} {op r : Int32} {n' : Nat} {K' A' B' : Nat → Nat} (w : lc_wf n K A B) (hus : lc_us n K A x4 x5) (hT : lc_T op x n K A B r n' K' A' B')
    (H : ∀ y q, lc_us n' K' A' y q → J y q (nI (k + 2)) c0 c1 c2 c3 e1 e2 e3 e4 e5 e6 e7 e8 e9 e10 e11 d0 d1 d2 d3 f1 f2 f3 f4 f5 f6 f7 f8 f9 f10 f11) :
    ((op &&& 7 = 6 → ((nI n ≤ 0 → wL_law_119 post L xs J x3 x4 x5 (nI k) x (nI n) r r (nI n') kc ks c0 c1 c2 c3 e1 e2 e3 e4 e5 e6 e7 e8 e9 e10 e11 d0 d1 d2 d3 f1 f2 f3 f4 f5 f6 f7 f8 f9 f10 f11) ∧ (¬ nI n ≤ 0 → wL_law_120 post L xs J x3 x4 x5 (nI k) x (nI n) r r (nI n') 1 kc ks c0 c1 c2 c3 e1 e2 e3 e4 e5 e6 e7 e8 e9 e10 e11 d0 d1 d2 d3 f1 f2 f3 f4 f5 f6 f7 f8 f9 f10 f11))) ∧ (¬ op &&& 7 = 6 → wL_law_119 post L xs J x3 x4 x5 (nI k) x (nI n) r r (nI n') kc ks c0 c1 c2 c3 e1 e2 e3 e4 e5 e6 e7 e8 e9 e10 e11 d0 d1 d2 d3 f1 f2 f3 f4 f5 f6 f7 f8 f9 f10 f11)) := by
  have hn := w.1
  have ho : op.toBitVec.toNat % 2 ^ 3 < 8 := Nat.mod_lt _ (by decide)
  rw [show op &&& 7 = nI (op.toBitVec.toNat % 2 ^ 3) from pk_and op 3 (by decide)]
  have hf : lc_kd x = 7 → lc_fs x < 4 := fun h => by have := lc_fs_4 x (by omega); omega
  rcases hT with ⟨h1, h2, rfl, rfl, rfl, rfl, rfl⟩ | ⟨h1, rfl, rfl, rfl, rfl, rfl, rfl⟩ | ⟨h1, h2, rfl, rfl, rfl, rfl, rfl⟩ | ⟨h1, h2, rfl, rfl, rfl, rfl, rfl⟩
  · have g : wL_law_119 post L xs J x3 x4 x5 (nI k) x (nI n) (nI n) (nI n) (nI (n + 1)) kc ks c0 c1 c2 c3 e1 e2 e3 e4 e5 e6 e7 e8 e9 e10 e11 d0 d1 d2 d3 f1 f2 f3 f4 f5 f6 f7 f8 f9 f10 f11 := by
      unfold wL_law_119 wL_law_120
      refine br_t rfl (br_f (nI_ge (by omega) (by omega)) ?_)
      unfold wL_law_155
      exact br_t rfl (br_f (nI_ge (by omega) (by omega)) (lc_w_169 h2 (fun z y q hz hy hq => H y q (lc_us_p hus (by omega) (by omega) (fun p hp => by omega) hz hf hy hq))))
    exact pk_eq (op.toBitVec.toNat % 2 ^ 3) 6 (fun z => pk_le n 0 (fun _ => g) (fun y => absurd h1 (by omega))) (fun _ => g)
  · have g : wL_law_119 post L xs J x3 x4 x5 (nI k) x (nI 24) (-2) (-2) (nI 24) kc ks c0 c1 c2 c3 e1 e2 e3 e4 e5 e6 e7 e8 e9 e10 e11 d0 d1 d2 d3 f1 f2 f3 f4 f5 f6 f7 f8 f9 f10 f11 := by
      unfold wL_law_119 wL_law_120
      refine br_t rfl (br_t (nI_le (by omega) (by omega)) ?_)
      unfold wL_law_155
      refine br_t rfl (br_t (nI_le (by omega) (by omega)) ?_)
      unfold wL_law_183
      exact lc_w_184 (Or.inl rfl) (by omega) (fun _ => rfl) (fun e => absurd e (by omega)) (fun _ => H _ _ hus)
    exact pk_eq (op.toBitVec.toNat % 2 ^ 3) 6 (fun z => pk_le 24 0 (fun _ => g) (fun y => absurd h1 (by omega))) (fun _ => g)
  · refine pk_eq (op.toBitVec.toNat % 2 ^ 3) 6 (fun _ => pk_le n' 0 (fun y => absurd y (by omega)) (fun _ => ?_)) (fun y => absurd h1 y)
    have hia := lc_at_b x h2
    unfold wL_law_120
    refine br_f (by decide) ⟨nI_ne0 (by omega) (by omega), ?_⟩
    rw [pk_and (x >>> ((9 : Int32) &&& 31)) 5 (by decide), pk_rem (by omega) (by omega) (by omega)]
    unfold wL_law_155
    exact br_f (by decide) (lc_w_169 (i := lc_at x n') (by omega) (fun z y q hz hy hq => H y q (lc_us_p hus (by omega) hia (fun p hp => Iff.rfl) hz hf hy hq)))
  · refine pk_eq (op.toBitVec.toNat % 2 ^ 3) 6 (fun y => absurd h1 (by omega)) (fun _ => ?_)
    unfold wL_law_119 wL_law_120
    refine br_t rfl (br_t (nI_le (by omega) (by omega)) ?_)
    unfold wL_law_155
    refine br_t rfl (br_t (nI_le (by omega) (by omega)) ?_)
    unfold wL_law_183
    exact lc_w_184 (i := n - 1) (Or.inl rfl) (by omega) (fun _ => rfl) (fun _ y q hy hq => H y q (lc_us_d hus (by omega) (by omega) rfl hy hq)) (fun e => absurd e (by omega))
theorem lc_Ok_w {u : St1} (h : lc_Ok n K A B u) : lc_wf n K A B := by
  obtain ⟨c0, c1, c2, c3, e1, e2, e3, e4, e5, e6, e7, e8, e9, e10, e11⟩ := u
  exact h.2.1.1
theorem lc_w_38 (hL : L ≤ 260) (hc : lc_Ok 0 (fun _ => 0) (fun _ => 0) (fun _ => 0) (c0, c1, c2, c3, e1, e2, e3, e4, e5, e6, e7, e8, e9, e10, e11)) (hd : lc_Ok 0 (fun _ => 0) (fun _ => 0) (fun _ => 0) (d0, d1, d2, d3, f1, f2, f3, f4, f5, f6, f7, f8, f9, f10, f11)) (H : post 1) :
    ∃ fu, wL_law_38 post L xs x3 kc ks fu 0 0 1 c0 c1 c2 c3 e1 e2 e3 e4 e5 e6 e7 e8 e9 e10 e11 d0 d1 d2 d3 f1 f2 f3 f4 f5 f6 f7 f8 f9 f10 f11 := by
  refine loop_m (fun m (s : Nat × Int32 × Int64 × St1 × St1) => match s with | (k, x4, x5, (c0', c1', c2', c3', e1', e2', e3', e4', e5', e6', e7', e8', e9', e10', e11'), (d0', d1', d2', d3', f1', f2', f3', f4', f5', f6', f7', f8', f9', f10', f11')) => wL_law_38 post L xs x3 kc ks m x4 x5 (nI k) c0' c1' c2' c3' e1' e2' e3' e4' e5' e6' e7' e8' e9' e10' e11' d0' d1' d2' d3' f1' f2' f3' f4' f5' f6' f7' f8' f9' f10' f11')
    (fun s => s.1 < 62 ∧ ∃ n K A B, lc_us n K A s.2.1 s.2.2.1 ∧ lc_Ok n K A B s.2.2.2.1 ∧ lc_Ok n K A B s.2.2.2.2) (fun s => 64 - s.1) ?_ (1, 0, 0, (c0, c1, c2, c3, e1, e2, e3, e4, e5, e6, e7, e8, e9, e10, e11), (d0, d1, d2, d3, f1, f2, f3, f4, f5, f6, f7, f8, f9, f10, f11))
    ⟨by show 1 < 62; decide, 0, (fun _ => 0), (fun _ => 0), (fun _ => 0), ⟨fun p _ => ⟨fun z => absurd z lc_0F, fun z => absurd z.1 (by omega)⟩, fun p hp => absurd hp (by omega)⟩, hc, hd⟩
  rintro m ⟨k, x4, x5, ⟨c0, c1, c2, c3, e1, e2, e3, e4, e5, e6, e7, e8, e9, e10, e11⟩, ⟨d0, d1, d2, d3, f1, f2, f3, f4, f5, f6, f7, f8, f9, f10, f11⟩⟩ ⟨hk, n, K, A, B, hus, hc, hd⟩ hw
  dsimp only at hk hus hc hd hw ⊢
  have w := lc_Ok_w hc
  have e281 := lc_w_281 (post := post) (L := L) (xs := xs) (x3 := x3) (kc := kc) (ks := ks) w hus.1 hus.2 hc hd H
  refine pk_le L (k + 1) (fun _ => e281) (fun hk2 => pk_le 60 k (fun _ => e281) (fun hk3 => ⟨pk_in (k + 1) L (by omega) (nI_1 k), nm_e ?_⟩)) rfl (nI_1 k)
  have hin : vp_in (nI k) L := pk_in k L (by omega)
  obtain ⟨r, n', K', A', B', hT, go⟩ := lc_w_turn (xs (nI k).toNatClampNeg) (xs (nI k + 1).toNatClampNeg) w
  refine lc_w_points hc ⟨hin, go _ _ hc (fun u hu => ?_)⟩
  obtain ⟨c0, c1, c2, c3, e1, e2, e3, e4, e5, e6, e7, e8, e9, e10, e11⟩ := u
  refine ⟨hin, go _ _ hd (fun u hv => ?_)⟩
  obtain ⟨d0, d1, d2, d3, f1, f2, f3, f4, f5, f6, f7, f8, f9, f10, f11⟩ := u
  refine lc_w_points hu ⟨hin, ?_⟩
  exact lc_w_turned w hus hT (fun y q hyq => hw (k + 2, y, q, (c0, c1, c2, c3, e1, e2, e3, e4, e5, e6, e7, e8, e9, e10, e11), (d0, d1, d2, d3, f1, f2, f3, f4, f5, f6, f7, f8, f9, f10, f11)) ⟨by dsimp only; omega, n', K', A', B', hyq, hu, hv⟩ (by dsimp only; omega))
end
theorem lc_w_init {post : St1 → Prop} (H : post (0, 0, 0, 0, (fun _ => 0), (fun _ => 0), (fun _ => 0), (fun _ => 0), (fun _ => 0), (fun _ => 0), (fun _ => 0), (fun _ => 0), (fun _ => 0), (fun _ => 0), (fun _ => 0))) : wpX_init post 11 700 (0, 0, 0, 0) := by
  unfold wpX_init
  exact ⟨by decide, by decide, by decide, by decide, by decide, by decide, by decide, by decide, by decide, by decide, by decide, by decide, by decide, by decide, by decide, by decide, by decide, by decide, by decide, by decide, by decide, by decide, H⟩
theorem lc_Ok_0 : lc_Ok 0 (fun _ => 0) (fun _ => 0) (fun _ => 0) (0, 0, 0, 0, (fun _ => 0), (fun _ => 0), (fun _ => 0), (fun _ => 0), (fun _ => 0), (fun _ => 0), (fun _ => 0), (fun _ => 0), (fun _ => 0), (fun _ => 0), (fun _ => 0)) :=
  ⟨rfl, ⟨⟨by omega, fun p hp => absurd hp (by omega)⟩, fun p hp => absurd hp (by omega)⟩, Or.inl rfl⟩
theorem i_vc (xs : Nat → Int32) (L : Nat) (hL : L ≤ 260) : wpL_law (fun r => r = 1) L xs := by
  unfold wpL_law
  refine ⟨11, 700, by decide, by decide, lc_w_init ⟨by decide, by decide, 11, 700, by decide, by decide, lc_w_init ?_⟩⟩
  exact pk_le L 0 (fun _ => lc_w_38 hL lc_Ok_0 lc_Ok_0 rfl) (fun z => ⟨pk_in 0 L z, nm_e (lc_w_38 hL lc_Ok_0 lc_Ok_0 rfl)⟩)
end
