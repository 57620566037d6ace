section
/-! bits of small ints, by the naturals behind -/
theorem mq_sl : ∀ n, n < 32 → ((nI n &&& 31).toBitVec.smod 32).toNat = n := by decide +kernel
theorem mq_and (a b : Nat) : nI a &&& nI b = nI (a &&& b) := by
  apply Int32.toBitVec_inj.1
  show BitVec.ofNat 32 a &&& BitVec.ofNat 32 b = BitVec.ofNat 32 (a &&& b)
  apply BitVec.eq_of_getLsbD_eq
  intro i hi
  simp [hi]
theorem mq_or (a b : Nat) : nI a ||| nI b = nI (a ||| b) := by
  apply Int32.toBitVec_inj.1
  show BitVec.ofNat 32 a ||| BitVec.ofNat 32 b = BitVec.ofNat 32 (a ||| b)
  apply BitVec.eq_of_getLsbD_eq
  intro i hi
  simp [hi]
theorem mq_sh : ∀ k, k < 31 → (1 : Int32) <<< (nI k &&& 31) = nI (2 ^ k) := by decide +kernel
theorem mq_bit {s k : Nat} (hs : s < 2 ^ 31) (hk : k < 31) : ((nI s >>> (nI k &&& 31)) &&& 1) = nI (s / 2 ^ k % 2) := by
  rw [pk_shrN hs _ k (mq_sl k (by omega))]
  exact pk_andN (Nat.lt_of_le_of_lt (Nat.div_le_self _ _) (by omega)) 1 rfl
theorem mq_bit1 {s k : Nat} (hs : s < 2 ^ 31) (hk : k < 31) : ((nI s >>> (nI k &&& 31)) &&& 1) = 1 ↔ s.testBit k = true := by
  have e : (1 : Int32) = nI 1 := rfl
  have h2 : s / 2 ^ k % 2 < 2 := Nat.mod_lt _ (by omega)
  rw [mq_bit hs hk, e, nI_eq (by omega) (by omega), Nat.testBit_eq_decide_div_mod_eq, decide_eq_true_iff]
theorem mq_clr : ∀ s, s < 512 → ∀ k, k < 9 → s.testBit k = true → nI s &&& (((1 : Int32) <<< (nI k &&& 31)) ^^^ (-1)) = nI (s ^^^ 2 ^ k) ∧ s ^^^ 2 ^ k < s := by decide +kernel
theorem mq_pow {k : Nat} (h : k ≤ 9) : 2 ^ k ≤ 512 := Nat.pow_le_pow_right (by omega) h
theorem mq_pow8 {k : Nat} (h : k ≤ 8) : 2 ^ k ≤ 256 := Nat.pow_le_pow_right (by omega) h
theorem mq_lt2 {i n : Nat} (h : i < n) : 2 ^ i < 2 ^ n := Nat.pow_lt_pow_right (by omega) h
theorem mq_pos (n : Nat) : 0 < 2 ^ n := Nat.two_pow_pos n
theorem mq_tlt {s n f : Nat} (hs : s < 2 ^ n) (h : s.testBit f = true) : f < n := by
  rcases Nat.lt_or_ge f n with z | z
  · exact z
  · have : s < 2 ^ f := Nat.lt_of_lt_of_le hs (Nat.pow_le_pow_right (by omega) z)
    rw [Nat.testBit_lt_two_pow this] at h
    exact absurd h (by decide)
theorem mq_must {s i : Nat} : s &&& 2 ^ i = 2 ^ i ↔ s.testBit i = true := by
  constructor
  · intro h
    have e : (s &&& 2 ^ i).testBit i = true := by rw [h, Nat.testBit_two_pow]; simp
    rw [Nat.testBit_and] at e
    simp at e
    exact e
  · intro h
    apply Nat.eq_of_testBit_eq
    intro j
    rw [Nat.testBit_and, Nat.testBit_two_pow]
    by_cases e : i = j
    · subst e; rw [h]; simp
    · simp [e]
theorem mq_clrbit {s f i : Nat} (h : s.testBit f = true) : (s ^^^ 2 ^ f).testBit i = true ↔ s.testBit i = true ∧ i ≠ f := by
  rw [Nat.testBit_xor, Nat.testBit_two_pow]
  by_cases e : f = i
  · subst e; rw [h]; simp
  · simp [e]; intro _ z; exact e z.symm
theorem mq_addbit {s k i : Nat} (hs : s < 2 ^ k) (h : i < k) : (s + 2 ^ k).testBit i = s.testBit i := by
  rw [Nat.add_comm, Nat.testBit_two_pow_add_gt h]
theorem mq_addbitk {s k : Nat} (hs : s < 2 ^ k) : (s + 2 ^ k).testBit k = true := by
  rw [Nat.add_comm, Nat.testBit_two_pow_add_eq, Nat.testBit_lt_two_pow hs]; rfl
end
section
/-! folding: weights summed fact after fact -/
def mq_fld (c : Nat → Nat) : Nat → (Nat → Nat) → Nat
  | 0, g => g 0
  | k + 1, g => mq_fld c k (fun s => g s * (4 - c k) + g (s + 2 ^ k) * c k)
theorem mq_fld_le {c : Nat → Nat} : ∀ (k : Nat) (g h : Nat → Nat), (∀ s, s < 2 ^ k → g s ≤ h s) → mq_fld c k g ≤ mq_fld c k h := by
  intro k
  induction k with
  | zero => intro g h H; exact H 0 (by decide)
  | succ k ih =>
    intro g h H
    refine ih _ _ (fun s hs => ?_)
    have e : 2 ^ (k + 1) = 2 ^ k * 2 := Nat.pow_succ 2 k
    exact Nat.add_le_add (Nat.mul_le_mul_right _ (H s (by omega))) (Nat.mul_le_mul_right _ (H (s + 2 ^ k) (by omega)))
theorem mq_fld_eq {c : Nat → Nat} {k : Nat} {g h : Nat → Nat} (H : ∀ s, s < 2 ^ k → g s = h s) : mq_fld c k g = mq_fld c k h :=
  Nat.le_antisymm (mq_fld_le k g h (fun s hs => Nat.le_of_eq (H s hs))) (mq_fld_le k h g (fun s hs => Nat.le_of_eq (H s hs).symm))
theorem mq_fld_mul {c : Nat → Nat} (a : Nat) : ∀ (k : Nat) (g : Nat → Nat), mq_fld c k (fun s => a * g s) = a * mq_fld c k g := by
  intro k
  induction k with
  | zero => intro g; rfl
  | succ k ih =>
    intro g
    show mq_fld c k (fun s => a * g s * (4 - c k) + a * g (s + 2 ^ k) * c k) = a * mq_fld c k (fun s => g s * (4 - c k) + g (s + 2 ^ k) * c k)
    rw [← ih]
    refine mq_fld_eq (fun s _ => ?_)
    show a * g s * (4 - c k) + a * g (s + 2 ^ k) * c k = a * (g s * (4 - c k) + g (s + 2 ^ k) * c k)
    rw [Nat.mul_add, Nat.mul_assoc, Nat.mul_assoc]
theorem mq_split {B x : Nat} (h : x ≤ 4) : B * (4 - x) + B * x = B * 4 := by
  rw [← Nat.mul_add, Nat.sub_add_cancel h]
theorem mq_fld_const {c : Nat → Nat} : ∀ (k a : Nat), (∀ j, j < k → c j ≤ 4) → mq_fld c k (fun _ => a) = a * 4 ^ k := by
  intro k
  induction k with
  | zero => intro a _; exact (Nat.mul_one a).symm
  | succ k ih =>
    intro a H
    show mq_fld c k (fun _ => a * (4 - c k) + a * c k) = a * 4 ^ (k + 1)
    rw [mq_split (H k (by omega)), ih _ (fun j hj => H j (by omega)), Nat.pow_succ, Nat.mul_assoc, Nat.mul_comm 4]
theorem mq_fld_zero {c : Nat → Nat} {k : Nat} {g : Nat → Nat} (H : ∀ s, s < 2 ^ k → g s = 0) : mq_fld c k g = 0 := by
  have e : mq_fld c k g = mq_fld c k (fun s => 0 * g s) := mq_fld_eq (fun s hs => by rw [H s hs])
  rw [e, mq_fld_mul, Nat.zero_mul]
/-- the set of facts of chance 4 -/
def mq_sm (c : Nat → Nat) : Nat → Nat
  | 0 => 0
  | k + 1 => mq_sm c k + (if c k = 4 then 2 ^ k else 0)
theorem mq_sm_lt (c : Nat → Nat) : ∀ k, mq_sm c k < 2 ^ k := by
  intro k
  induction k with
  | zero => exact Nat.zero_lt_one
  | succ k ih =>
    have e : 2 ^ (k + 1) = 2 ^ k * 2 := Nat.pow_succ 2 k
    unfold mq_sm
    split <;> omega
theorem mq_sm_bit (c : Nat → Nat) : ∀ k j, (mq_sm c k).testBit j = true ↔ j < k ∧ c j = 4 := by
  intro k
  induction k with
  | zero => intro j; simp [mq_sm]
  | succ k ih =>
    intro j
    have hlt := mq_sm_lt c k
    unfold mq_sm
    by_cases e : c k = 4
    · rw [if_pos e]
      rcases Nat.lt_trichotomy j k with z | z | z
      · rw [mq_addbit hlt z, ih]
        constructor
        · exact fun t => ⟨by omega, t.2⟩
        · exact fun t => ⟨z, t.2⟩
      · subst z
        rw [mq_addbitk hlt]
        exact ⟨fun _ => ⟨by omega, e⟩, fun _ => rfl⟩
      · have h2 : mq_sm c k + 2 ^ k < 2 ^ j := by
          have e1 : 2 ^ (k + 1) = 2 ^ k * 2 := Nat.pow_succ 2 k
          have e2 : 2 ^ (k + 1) ≤ 2 ^ j := Nat.pow_le_pow_right (by omega) z
          omega
        rw [Nat.testBit_lt_two_pow h2]
        constructor
        · intro t; exact absurd t (by decide)
        · intro t; omega
    · rw [if_neg e, Nat.add_zero, ih]
      constructor
      · exact fun t => ⟨by omega, t.2⟩
      · intro t
        refine ⟨?_, t.2⟩
        rcases Nat.lt_or_ge j k with z | z
        · exact z
        · have : j = k := by omega
          subst this
          exact absurd t.2 e
theorem mq_fld_full {c : Nat → Nat} : ∀ (k B : Nat) (g : Nat → Nat), (∀ j, j < k → c j ≤ 4) → (∀ s, s < 2 ^ k → (∀ j, j < k → c j = 4 → s.testBit j = true) → g s = B) → mq_fld c k g = B * 4 ^ k := by
  intro k
  induction k with
  | zero =>
    intro B g _ H
    have := H 0 (by decide) (fun j hj => absurd hj (by omega))
    show g 0 = B * 1
    omega
  | succ k ih =>
    intro B g hc H
    have e : 2 ^ (k + 1) = 2 ^ k * 2 := Nat.pow_succ 2 k
    show mq_fld c k (fun s => g s * (4 - c k) + g (s + 2 ^ k) * c k) = B * 4 ^ (k + 1)
    rw [ih (B * 4) _ (fun j hj => hc j (by omega)) ?_]
    · rw [Nat.pow_succ, Nat.mul_assoc, Nat.mul_comm 4]
    · intro s hs hb
      show g s * (4 - c k) + g (s + 2 ^ k) * c k = B * 4
      have h2 : g (s + 2 ^ k) = B := by
        refine H _ (by omega) (fun j hj h4 => ?_)
        rcases Nat.lt_or_ge j k with z | z
        · rw [mq_addbit hs z]; exact hb j z h4
        · have : j = k := by omega
          subst this
          exact mq_addbitk hs
      by_cases h4 : c k = 4
      · rw [h2, h4]; omega
      · have h1 : g s = B := by
          refine H s (by omega) (fun j hj h5 => ?_)
          rcases Nat.lt_or_ge j k with z | z
          · exact hb j z h5
          · have : j = k := by omega
            subst this
            exact absurd h5 h4
        rw [h1, h2, mq_split (hc k (by omega))]
theorem mq_lt4 {a b B x : Nat} (hx : x ≤ 4) (ha : a ≤ B) (hb : b ≤ B) (h : (x = 4 → b < B) ∧ (x ≠ 4 → a < B)) : a * (4 - x) + b * x < B * 4 := by
  have : x = 0 ∨ x = 1 ∨ x = 2 ∨ x = 3 ∨ x = 4 := by omega
  rcases this with z | z | z | z | z <;> subst z <;> simp at h <;> omega
theorem mq_le4 {a b B x : Nat} (hx : x ≤ 4) (ha : a ≤ B) (hb : b ≤ B) : a * (4 - x) + b * x ≤ B * 4 := by
  have : x = 0 ∨ x = 1 ∨ x = 2 ∨ x = 3 ∨ x = 4 := by omega
  rcases this with z | z | z | z | z <;> subst z <;> omega
theorem mq_fld_lt {c : Nat → Nat} : ∀ (k B : Nat) (g : Nat → Nat), (∀ j, j < k → c j ≤ 4) → (∀ s, s < 2 ^ k → g s ≤ B) → g (mq_sm c k) < B → mq_fld c k g < B * 4 ^ k := by
  intro k
  induction k with
  | zero =>
    intro B g _ _ H
    show g 0 < B * 1
    have : g 0 < B := H
    omega
  | succ k ih =>
    intro B g hc H h0
    have e : 2 ^ (k + 1) = 2 ^ k * 2 := Nat.pow_succ 2 k
    have hlt := mq_sm_lt c k
    show mq_fld c k (fun s => g s * (4 - c k) + g (s + 2 ^ k) * c k) < B * 4 ^ (k + 1)
    have e4 : B * 4 ^ (k + 1) = B * 4 * 4 ^ k := by rw [Nat.pow_succ, Nat.mul_assoc, Nat.mul_comm 4]
    rw [e4]
    refine ih (B * 4) _ (fun j hj => hc j (by omega)) (fun s hs => ?_) ?_
    · exact mq_le4 (hc k (by omega)) (H s (by omega)) (H (s + 2 ^ k) (by omega))
    · refine mq_lt4 (hc k (by omega)) (H _ (by omega)) (H _ (by omega)) ⟨fun z => ?_, fun z => ?_⟩
      · unfold mq_sm at h0
        rw [if_pos z] at h0
        exact h0
      · unfold mq_sm at h0
        rw [if_neg z, Nat.add_zero] at h0
        exact h0
theorem mq_fld_pos {c : Nat → Nat} : ∀ (k : Nat) (g : Nat → Nat), (∀ j, j < k → 1 ≤ c j) → 1 ≤ g (2 ^ k - 1) → 1 ≤ mq_fld c k g := by
  intro k
  induction k with
  | zero => intro g _ h; exact h
  | succ k ih =>
    intro g hc h
    refine ih _ (fun j hj => hc j (by omega)) ?_
    have e : 2 ^ (k + 1) - 1 = 2 ^ k - 1 + 2 ^ k := by
      have e1 : 2 ^ (k + 1) = 2 ^ k * 2 := Nat.pow_succ 2 k
      have := mq_pos k
      omega
    rw [e] at h
    show 1 ≤ g (2 ^ k - 1) * (4 - c k) + g (2 ^ k - 1 + 2 ^ k) * c k
    have := Nat.mul_le_mul h (hc k (by omega))
    omega
theorem mq_fld_y {c : Nat → Nat} : ∀ (k : Nat) (g : Nat → Nat), (∀ j, j < k → c j = 4) → mq_fld c k g = g (2 ^ k - 1) * 4 ^ k := by
  intro k
  induction k with
  | zero => intro g _; exact (Nat.mul_one _).symm
  | succ k ih =>
    intro g hc
    have e : 2 ^ (k + 1) - 1 = 2 ^ k - 1 + 2 ^ k := by
      have e1 : 2 ^ (k + 1) = 2 ^ k * 2 := Nat.pow_succ 2 k
      have := mq_pos k
      omega
    show mq_fld c k (fun s => g s * (4 - c k) + g (s + 2 ^ k) * c k) = _
    rw [ih _ (fun j hj => hc j (by omega)), e, hc k (by omega), Nat.pow_succ]
    show (g (2 ^ k - 1) * (4 - 4) + g (2 ^ k - 1 + 2 ^ k) * 4) * 4 ^ k = g (2 ^ k - 1 + 2 ^ k) * (4 ^ k * 4)
    rw [Nat.sub_self, Nat.mul_zero, Nat.zero_add, Nat.mul_assoc, Nat.mul_comm 4]
theorem mq_fld_ind {c : Nat → Nat} {i : Nat} : ∀ (k : Nat) (g : Nat → Nat), i < k → (∀ j, j < k → c j ≤ 4) → (∀ s, s < 2 ^ k → g s = g (s ||| 2 ^ i)) → mq_fld c k (fun s => if s.testBit i = true then g s else 0) * 4 = mq_fld c k g * c i := by
  intro k
  induction k with
  | zero => intro g h; exact absurd h (by omega)
  | succ k ih =>
    intro g hi hc H
    have e : 2 ^ (k + 1) = 2 ^ k * 2 := Nat.pow_succ 2 k
    show mq_fld c k (fun s => (if s.testBit i = true then g s else 0) * (4 - c k) + (if (s + 2 ^ k).testBit i = true then g (s + 2 ^ k) else 0) * c k) * 4 = mq_fld c k (fun s => g s * (4 - c k) + g (s + 2 ^ k) * c k) * c i
    rcases Nat.lt_or_ge i k with z | z
    · rw [← ih _ z (fun j hj => hc j (by omega)) ?_]
      · congr 1
        refine mq_fld_eq (fun s hs => ?_)
        show (if s.testBit i = true then g s else 0) * (4 - c k) + (if (s + 2 ^ k).testBit i = true then g (s + 2 ^ k) else 0) * c k = if s.testBit i = true then g s * (4 - c k) + g (s + 2 ^ k) * c k else 0
        rw [mq_addbit hs z]
        split <;> simp
      · intro s hs
        show g s * (4 - c k) + g (s + 2 ^ k) * c k = g (s ||| 2 ^ i) * (4 - c k) + g ((s ||| 2 ^ i) + 2 ^ k) * c k
        have h2 : s ||| 2 ^ i < 2 ^ k := Nat.or_lt_two_pow hs (mq_lt2 z)
        have e2 : (s + 2 ^ k) ||| 2 ^ i = (s ||| 2 ^ i) + 2 ^ k := by
          rw [← Nat.or_two_pow_eq_add_of_lt hs, ← Nat.or_two_pow_eq_add_of_lt h2, Nat.or_assoc, Nat.or_comm (2 ^ k), Nat.or_assoc]
        rw [← H s (by omega), ← e2, ← H (s + 2 ^ k) (by omega)]
    · have : i = k := by omega
      subst this
      have e1 : mq_fld c i (fun s => (if s.testBit i = true then g s else 0) * (4 - c i) + (if (s + 2 ^ i).testBit i = true then g (s + 2 ^ i) else 0) * c i) = mq_fld c i (fun s => c i * g (s + 2 ^ i)) := by
        refine mq_fld_eq (fun s hs => ?_)
        show (if s.testBit i = true then g s else 0) * (4 - c i) + (if (s + 2 ^ i).testBit i = true then g (s + 2 ^ i) else 0) * c i = c i * g (s + 2 ^ i)
        rw [Nat.testBit_lt_two_pow hs, mq_addbitk hs]
        simp [Nat.mul_comm]
      have e2 : mq_fld c i (fun s => g s * (4 - c i) + g (s + 2 ^ i) * c i) = mq_fld c i (fun s => 4 * g (s + 2 ^ i)) := by
        refine mq_fld_eq (fun s hs => ?_)
        show g s * (4 - c i) + g (s + 2 ^ i) * c i = 4 * g (s + 2 ^ i)
        rw [H s (by omega), Nat.or_two_pow_eq_add_of_lt hs, mq_split (hc i (by omega)), Nat.mul_comm]
      have m1 : mq_fld c i (fun s => c i * g (s + 2 ^ i)) = c i * mq_fld c i (fun s => g (s + 2 ^ i)) := mq_fld_mul (c i) i (fun s => g (s + 2 ^ i))
      have m2 : mq_fld c i (fun s => 4 * g (s + 2 ^ i)) = 4 * mq_fld c i (fun s => g (s + 2 ^ i)) := mq_fld_mul 4 i (fun s => g (s + 2 ^ i))
      rw [e1, e2, m1, m2]
      generalize mq_fld c i (fun s => g (s + 2 ^ i)) = F
      rw [Nat.mul_comm (c i * F) 4, Nat.mul_comm (c i) F, Nat.mul_assoc]
end
section
/-! matches: a place of a condition against a node, a condition against a fact, condition after condition -/
def mq_ft (E : Nat → Int32) (p c : Int32) : Option (Nat → Int32) :=
  if p < 8 then (if E p.toNatClampNeg = -1 then some (upd E p.toNatClampNeg c) else if E p.toNatClampNeg = c then some E else none)
  else if p - 8 = c then some E else none
def mq_st (a1 a2 a3 a5 a6 a7 : Nat → Int32) (E : Nat → Int32) (l f : Nat) : Option (Nat → Int32) :=
  if a3 f = a5 l then (match mq_ft E (a6 l) (a1 f) with
    | none => none
    | some E' => mq_ft E' (a7 l) (a2 f)) else none
/-- the set of facts of a match: what stands after d more conditions, from condition l on, the facts A taken -/
def mq_mt (st : (Nat → Int32) → Nat → Nat → Option (Nat → Int32)) (N : Nat) : Nat → Nat → (Nat → Int32) → Nat → Nat → Prop
  | 0, _, _, A, T => T = A
  | d + 1, l, E, A, T => ∃ f, f < N ∧ ∃ E', st E l f = some E' ∧ mq_mt st N d (l + 1) E' (A ||| 2 ^ f) T
/-- a world answers yes -/
def mq_ys (st : (Nat → Int32) → Nat → Nat → Option (Nat → Int32)) (N : Nat) : Nat → Nat → (Nat → Int32) → Nat → Prop
  | 0, _, _, _ => True
  | d + 1, l, E, S => ∃ f, f < N ∧ S.testBit f = true ∧ ∃ E', st E l f = some E' ∧ mq_ys st N d (l + 1) E' S
def mq_fr : Nat → Int32 := fun _ => -1
section
variable {st st' : (Nat → Int32) → Nat → Nat → Option (Nat → Int32)} {N : Nat}
theorem mq_mt_ys : ∀ (d l : Nat) (E : Nat → Int32) (A S : Nat), (∃ T, (∀ i, T.testBit i = true → S.testBit i = true) ∧ mq_mt st N d l E A T) ↔ (∀ i, A.testBit i = true → S.testBit i = true) ∧ mq_ys st N d l E S := by
  intro d
  induction d with
  | zero =>
    intro l E A S
    constructor
    · rintro ⟨T, h, e⟩
      have e' : T = A := e
      subst e'
      exact ⟨h, trivial⟩
    · rintro ⟨h, _⟩
      exact ⟨A, h, rfl⟩
  | succ d ih =>
    intro l E A S
    constructor
    · rintro ⟨T, h, f, hf, E', e, m⟩
      have := (ih (l + 1) E' (A ||| 2 ^ f) S).mp ⟨T, h, m⟩
      refine ⟨fun i hi => this.1 i (by rw [Nat.testBit_or, hi]; rfl), f, hf, this.1 f (by rw [Nat.testBit_or, Nat.testBit_two_pow]; simp), E', e, this.2⟩
    · rintro ⟨h, f, hf, hb, E', e, m⟩
      obtain ⟨T, h1, h2⟩ := (ih (l + 1) E' (A ||| 2 ^ f) S).mpr ⟨fun i hi => by
        rw [Nat.testBit_or, Nat.testBit_two_pow] at hi
        by_cases z : f = i
        · subst z; exact hb
        · simp [z] at hi; exact h i hi, m⟩
      exact ⟨T, h1, f, hf, E', e, h2⟩
theorem mq_mt_lt : ∀ (d l : Nat) (E : Nat → Int32) (A T : Nat), A < 2 ^ N → mq_mt st N d l E A T → T < 2 ^ N := by
  intro d
  induction d with
  | zero => intro l E A T hA e; have e' : T = A := e; rw [e']; exact hA
  | succ d ih =>
    rintro l E A T hA ⟨f, hf, E', e, m⟩
    exact ih (l + 1) E' _ T (Nat.or_lt_two_pow hA (mq_lt2 hf)) m
theorem mq_ys_mono : ∀ (d l : Nat) (E : Nat → Int32) (S S' : Nat), (∀ i, i < N → S.testBit i = true → S'.testBit i = true) → mq_ys st N d l E S → mq_ys st N d l E S' := by
  intro d
  induction d with
  | zero => intro l E S S' _ _; trivial
  | succ d ih =>
    rintro l E S S' h ⟨f, hf, hb, E', e, m⟩
    exact ⟨f, hf, h f hf hb, E', e, ih _ _ _ _ h m⟩
theorem mq_ys_less : ∀ (d l : Nat) (E : Nat → Int32) (S : Nat), mq_ys st N (d + 1) l E S → mq_ys st N d l E S := by
  intro d
  induction d with
  | zero => intro l E S _; trivial
  | succ d ih =>
    rintro l E S ⟨f, hf, hb, E', e, m⟩
    exact ⟨f, hf, hb, E', e, ih _ _ _ m⟩
theorem mq_ys_cg {M : Nat} (h : ∀ E l f, l < M → st E l f = st' E l f) : ∀ (d l : Nat) (E : Nat → Int32) (S : Nat), l + d ≤ M → mq_ys st N d l E S → mq_ys st' N d l E S := by
  intro d
  induction d with
  | zero => intro l E S _ _; trivial
  | succ d ih =>
    rintro l E S hl ⟨f, hf, hb, E', e, m⟩
    exact ⟨f, hf, hb, E', by rw [← h E l f (by omega)]; exact e, ih _ _ _ (by omega) m⟩
theorem mq_ys_iso {m S S' : Nat} {g : Nat → Nat} (hg : ∀ j, j < m → g j < N ∧ S.testBit (g j) = true) (ho : ∀ f, f < N → S.testBit f = true → ∃ j, j < m ∧ g j = f) (hS : ∀ j, j < m → S'.testBit j = true)
    (he : ∀ E l j, j < m → st' E l j = st E l (g j)) : ∀ (d l : Nat) (E : Nat → Int32), mq_ys st' m d l E S' ↔ mq_ys st N d l E S := by
  intro d
  induction d with
  | zero => intro l E; exact ⟨fun _ => trivial, fun _ => trivial⟩
  | succ d ih =>
    intro l E
    constructor
    · rintro ⟨j, hj, _, E', e, q⟩
      exact ⟨g j, (hg j hj).1, (hg j hj).2, E', by rw [← he E l j hj]; exact e, (ih _ _).mp q⟩
    · rintro ⟨f, hf, hb, E', e, q⟩
      obtain ⟨j, hj, z⟩ := ho f hf hb
      subst z
      exact ⟨j, hj, hS j hj, E', by rw [he E l j hj]; exact e, (ih _ _).mpr q⟩
/-- yes: a match's own set, or yes with one fact less -/
theorem mq_rec {d l s : Nat} {E : Nat → Int32} (hs : s < 2 ^ N) : mq_ys st N d l E s ↔ mq_mt st N d l E 0 s ∨ ∃ f, f < N ∧ s.testBit f = true ∧ mq_ys st N d l E (s ^^^ 2 ^ f) := by
  have key : ∀ S, mq_ys st N d l E S ↔ ∃ T, (∀ i, T.testBit i = true → S.testBit i = true) ∧ mq_mt st N d l E 0 T := by
    intro S
    rw [mq_mt_ys]
    exact ⟨fun h => ⟨fun i hi => by simp at hi, h⟩, fun h => h.2⟩
  constructor
  · intro h
    obtain ⟨T, h1, h2⟩ := (key s).mp h
    by_cases e : T = s
    · subst e; exact Or.inl h2
    · right
      have : ∃ f, s.testBit f = true ∧ T.testBit f = false := by
        refine Classical.byContradiction (fun hn => e ?_)
        apply Nat.eq_of_testBit_eq
        intro i
        cases z : s.testBit i with
        | false =>
          cases z2 : T.testBit i with
          | false => rfl
          | true => rw [h1 i z2] at z; exact z
        | true =>
          cases z2 : T.testBit i with
          | false => exact absurd ⟨i, z, z2⟩ hn
          | true => rfl
      obtain ⟨f, f1, f2⟩ := this
      refine ⟨f, mq_tlt hs f1, f1, (key _).mpr ⟨T, fun i hi => ?_, h2⟩⟩
      rw [mq_clrbit f1]
      refine ⟨h1 i hi, fun z => ?_⟩
      subst z
      rw [f2] at hi
      exact absurd hi (by decide)
  · rintro (h | ⟨f, hf, hb, h⟩)
    · exact (key s).mpr ⟨s, fun i hi => hi, h⟩
    · obtain ⟨T, h1, h2⟩ := (key _).mp h
      exact (key s).mpr ⟨T, fun i hi => ((mq_clrbit hb).mp (h1 i hi)).1, h2⟩
/-- 1 if P, else 0 -/
noncomputable def mq_in (P : Prop) : Nat := @ite Nat P (Classical.propDecidable P) 1 0
theorem mq_in_1 {P : Prop} (h : P) : mq_in P = 1 := by unfold mq_in; rw [if_pos h]
theorem mq_in_0 {P : Prop} (h : ¬ P) : mq_in P = 0 := by unfold mq_in; rw [if_neg h]
theorem mq_in_le {P : Prop} : mq_in P ≤ 1 := by
  by_cases h : P
  · rw [mq_in_1 h]; omega
  · rw [mq_in_0 h]; omega
theorem mq_in_mono {P Q : Prop} (h : P → Q) : mq_in P ≤ mq_in Q := by
  by_cases hp : P
  · rw [mq_in_1 hp, mq_in_1 (h hp)]; omega
  · rw [mq_in_0 hp]; omega
theorem mq_in_iff {P Q : Prop} (h : P ↔ Q) : mq_in P = mq_in Q := Nat.le_antisymm (mq_in_mono h.mp) (mq_in_mono h.mpr)
/-- the weight of the worlds that answer yes -/
noncomputable def mq_SH (st : (Nat → Int32) → Nat → Nat → Option (Nat → Int32)) (c : Nat → Nat) (N K : Nat) : Nat := mq_fld c N (fun s => mq_in (mq_ys st N K 0 mq_fr s))
noncomputable def mq_SW (st : (Nat → Int32) → Nat → Nat → Option (Nat → Int32)) (c : Nat → Nat) (N K i : Nat) : Nat := mq_fld c N (fun s => mq_in (mq_ys st N K 0 mq_fr s ∧ s.testBit i = true))
theorem mq_SH_le {c : Nat → Nat} {K : Nat} (hc : ∀ j, j < N → c j ≤ 4) : mq_SH st c N K ≤ 4 ^ N := by
  have := mq_fld_le (c := c) N (fun s => mq_in (mq_ys st N K 0 mq_fr s)) (fun _ => 1) (fun s _ => mq_in_le)
  rw [mq_fld_const N 1 hc, Nat.one_mul] at this
  exact this
theorem mq_SW_le {c : Nat → Nat} {K i : Nat} : mq_SW st c N K i ≤ mq_SH st c N K := mq_fld_le N _ _ (fun s _ => mq_in_mono (fun h => h.1))
theorem mq_SH_all {c : Nat → Nat} {K : Nat} (hc : ∀ j, j < N → c j ≤ 4) : mq_SH st c N K = 4 ^ N ↔ mq_ys st N K 0 mq_fr (mq_sm c N) := by
  constructor
  · intro h
    refine Classical.byContradiction (fun hn => ?_)
    have := mq_fld_lt N 1 (fun s => mq_in (mq_ys st N K 0 mq_fr s)) hc (fun s _ => mq_in_le) (by show mq_in _ < 1; rw [mq_in_0 hn]; omega)
    rw [Nat.one_mul] at this
    have h' : mq_fld c N (fun s => mq_in (mq_ys st N K 0 mq_fr s)) = 4 ^ N := h
    omega
  · intro h
    have := mq_fld_full N 1 (fun s => mq_in (mq_ys st N K 0 mq_fr s)) hc (fun s hs hb => mq_in_1 (mq_ys_mono K 0 mq_fr _ s (fun i hi hz => hb i hi ((mq_sm_bit c N i).mp hz).2) h))
    rw [Nat.one_mul] at this
    exact this
theorem mq_SH_0 {c : Nat → Nat} {K : Nat} (hc : ∀ j, j < N → 1 ≤ c j) : mq_SH st c N K = 0 ↔ ∀ s, s < 2 ^ N → ¬ mq_ys st N K 0 mq_fr s := by
  constructor
  · intro h s hs hy
    have hf : mq_ys st N K 0 mq_fr (2 ^ N - 1) := mq_ys_mono K 0 mq_fr s _ (fun i hi _ => by rw [Nat.testBit_two_pow_sub_one]; exact decide_eq_true hi) hy
    have := mq_fld_pos N (fun s => mq_in (mq_ys st N K 0 mq_fr s)) hc (by show 1 ≤ mq_in _; rw [mq_in_1 hf]; omega)
    have h' : mq_fld c N (fun s => mq_in (mq_ys st N K 0 mq_fr s)) = 0 := h
    omega
  · intro h
    exact mq_fld_zero (fun s hs => mq_in_0 (h s hs))
theorem mq_SH_less {c : Nat → Nat} {K : Nat} (h : ∀ E l f, l < K → st' E l f = st E l f) : mq_SH st' c N (K + 1) ≤ mq_SH st c N K :=
  mq_fld_le N _ _ (fun s _ => mq_in_mono (fun z => mq_ys_cg h K 0 mq_fr s (by omega) (mq_ys_less K 0 mq_fr s z)))
theorem mq_SH_ind {c : Nat → Nat} {K i : Nat} (hi : i < N) (hc : ∀ j, j < N → c j ≤ 4) (h : ∀ s, s < 2 ^ N → (mq_ys st N K 0 mq_fr s ↔ mq_ys st N K 0 mq_fr (s ||| 2 ^ i))) : mq_SW st c N K i * 4 = mq_SH st c N K * c i := by
  have e := mq_fld_ind (c := c) (i := i) N (fun s => mq_in (mq_ys st N K 0 mq_fr s)) hi hc (fun s hs => mq_in_iff (h s hs))
  have e2 : mq_SW st c N K i = mq_fld c N (fun s => if s.testBit i = true then mq_in (mq_ys st N K 0 mq_fr s) else 0) := by
    refine mq_fld_eq (fun s _ => ?_)
    show mq_in _ = if s.testBit i = true then mq_in (mq_ys st N K 0 mq_fr s) else 0
    by_cases z : s.testBit i = true
    · rw [if_pos z]; exact mq_in_iff ⟨fun t => t.1, fun t => ⟨t, z⟩⟩
    · rw [if_neg z]; exact mq_in_0 (fun t => z t.2)
  rw [e2]
  exact e
theorem mq_SH_y {c : Nat → Nat} {K : Nat} (hc : ∀ j, j < N → c j = 4) : mq_SH st c N K = mq_in (mq_ys st N K 0 mq_fr (2 ^ N - 1)) * 4 ^ N := mq_fld_y N _ hc
/-- what prepare leaves: the sets of matches, the worlds that answer yes -/
def mq_PR (st : (Nat → Int32) → Nat → Nat → Option (Nat → Int32)) (N K : Nat) (m y : Nat → Int32) : Prop :=
  (∀ T, T < 2 ^ N → (¬ m T = 0 ↔ mq_mt st N K 0 mq_fr 0 T)) ∧ (∀ s, s < 2 ^ N → y s = 0 ∨ y s = 1) ∧ (∀ s, s < 2 ^ N → (y s = 1 ↔ mq_ys st N K 0 mq_fr s))
theorem mq_PR_0 {K : Nat} {m y : Nat → Int32} (h : mq_PR st N K m y) {s : Nat} (hs : s < 2 ^ N) : y s = 0 ↔ ¬ mq_ys st N K 0 mq_fr s := by
  rw [← h.2.2 s hs]
  rcases h.2.1 s hs with z | z
  · rw [z]; exact ⟨fun _ => by decide, fun _ => rfl⟩
  · rw [z]; exact ⟨fun t => absurd t (by decide), fun t => absurd rfl t⟩
theorem mq_PR_eq {K : Nat} {m y : Nat → Int32} (h : mq_PR st N K m y) {s t : Nat} (hs : s < 2 ^ N) (ht : t < 2 ^ N) (e : y s = y t) : mq_ys st N K 0 mq_fr s ↔ mq_ys st N K 0 mq_fr t := by
  rw [← h.2.2 s hs, ← h.2.2 t ht, e]
theorem mq_any {K : Nat} : (∀ T, T < 2 ^ N → ¬ mq_mt st N K 0 mq_fr 0 T) ↔ (∀ s, s < 2 ^ N → ¬ mq_ys st N K 0 mq_fr s) := by
  constructor
  · intro h s hs hy
    obtain ⟨T, h1, h2⟩ := (mq_mt_ys (st := st) (N := N) K 0 mq_fr 0 s).mpr ⟨fun i hi => by simp at hi, hy⟩
    exact h T (mq_mt_lt K 0 mq_fr 0 T (mq_pos N) h2) h2
  · intro h T hT m
    exact h T hT ((mq_rec hT).mpr (Or.inl m))
end
end
section
/-! the walk: release, fits, advance -/
section
variable {a1 a2 a3 a4 a5 a6 a7 a8 a9 a10 a11 a12 a13 : Nat → Int32}
/-- a place of a condition -/
def mq_pl (p : Int32) : Prop := ∃ k : Nat, p = nI k ∧ (k < 3 ∨ (8 ≤ k ∧ k < 14))
/-- with the variables of b let go, the values V are those of E -/
def mq_R (b : Nat) (V E : Nat → Int32) : Prop := ∀ v, v < 3 → (b.testBit v = true → E v = -1) ∧ (b.testBit v = false → V v = E v)
theorem mq_R0 {V E : Nat → Int32} (h : ∀ v, v < 3 → V v = E v) : mq_R 0 V E := fun v hv => ⟨fun z => absurd z (by simp), fun _ => h v hv⟩
theorem mq_Rv {b : Nat} {V V' E : Nat → Int32} (h : mq_R b V E) (hv : ∀ v, v < 3 → V' v = V v) : mq_R b V' E := fun v h3 => ⟨(h v h3).1, fun z => by rw [hv v h3]; exact (h v h3).2 z⟩
theorem mq_orb : ∀ b, b < 8 → ∀ k, k < 3 → (b ||| 2 ^ k < 8 ∧ ∀ v, v < 3 → (b ||| 2 ^ k).testBit v = (b.testBit v || decide (k = v))) := by decide +kernel
theorem mq_Ru {b k : Nat} {V E : Nat → Int32} {c : Int32} (hb : b < 8) (hk : k < 3) (h : mq_R b V E) (hV : V k = -1) : mq_R (b ||| 2 ^ k) (upd V k c) E := by
  intro v hv
  rw [(mq_orb b hb k hk).2 v hv]
  by_cases e : k = v
  · subst e
    refine ⟨fun _ => ?_, fun z => absurd z (by simp)⟩
    cases z : b.testBit k with
    | true => exact (h k hk).1 z
    | false => rw [← (h k hk).2 z]; exact hV
  · have e' : v ≠ k := fun z => e z.symm
    refine ⟨fun z => (h v hv).1 (by simpa [e] using z), fun z => ?_⟩
    rw [pk_un e']
    exact (h v hv).2 (by simpa [e] using z)
theorem mr_rel {post : St1 → Prop} {f0 f1 f2 : Int32} {l bm : Nat} {E : Nat → Int32} (hl : l < 5) (hb : bm < 8) (h9 : a9 l = nI bm) (hR : mq_R bm a10 E)
    (H : ∀ a9' a10' : Nat → Int32, (∀ i, i ≠ l → a9' i = a9 i) → a9' l = nI 0 → (∀ v, v < 3 → a10' v = E v) → post (f0, f1, f2, a1, a2, a3, a4, a5, a6, a7, a8, a9', a10', a11, a12, a13)) :
    wpX_release post (f0, f1, f2, a1, a2, a3, a4, a5, a6, a7, a8, a9, a10, a11, a12, a13) (nI l) := by
  unfold wpX_release
  dsimp only
  refine pk_loop (fun n i s => wX_release_2 post (nI l) f0 f1 f2 n (nI i) a1 a2 a3 a4 a5 a6 a7 a8 a9 s a11 a12 a13) (fun i s => (∀ v, v < i → s v = E v) ∧ (∀ v, i ≤ v → s v = a10 v)) 3 0 a10 (by omega) ⟨fun v hv => absurd hv (by omega), fun v _ => rfl⟩ ?_ ?_
  · intro n s hs
    refine pk_le 3 3 (fun _ => ⟨pk_in l 5 hl, nm_e ?_⟩) (fun z => absurd z (by omega))
    rw [nI_clamp (show l < 2 ^ 31 by omega)]
    exact H _ s (fun i hi => pk_un hi) pk_us (fun v hv => hs.1 v hv)
  · intro n i s hi hs hw
    refine pk_le 3 i (fun z => absurd z (by omega)) (fun _ => ⟨pk_in l 5 hl, ?_⟩)
    rw [nI_clamp (show l < 2 ^ 31 by omega), nI_clamp (show i < 2 ^ 31 by omega), h9]
    refine ek_if (mq_bit1 (by omega) (by omega)) (fun z => ⟨pk_in i 3 hi, nm_e (nm_r (nI_1 i) (hw _ ⟨fun v hv => ?_, fun v hv => ?_⟩))⟩) (fun z => nm_r (nI_1 i) (hw _ ⟨fun v hv => ?_, fun v hv => ?_⟩))
    · by_cases e : v = i
      · rw [e, pk_us]; exact ((hR i hi).1 z).symm
      · rw [pk_un e]; exact hs.1 v (by omega)
    · rw [pk_un (by omega)]; exact hs.2 v (by omega)
    · by_cases e : v = i
      · rw [e, hs.2 i (by omega)]; exact (hR i hi).2 (by simpa using z)
      · exact hs.1 v (by omega)
    · exact hs.2 v (by omega)
theorem mr_fits {post : Int32 → St1 → Prop} {f0 f1 f2 : Int32} {l bm : Nat} {p c : Int32} {E C : Nat → Int32} (hl : l < 5) (hp : mq_pl p) (hb : bm < 8) (h9 : a9 l = nI bm) (hR : mq_R bm a10 E) (hC : ∀ v, v < 3 → a10 v = C v)
    (H1 : ∀ (C' : Nat → Int32) (bm' : Nat) (a9' a10' : Nat → Int32), mq_ft C p c = some C' → (∀ i, i ≠ l → a9' i = a9 i) → bm' < 8 → a9' l = nI bm' → mq_R bm' a10' E → (∀ v, v < 3 → a10' v = C' v) → post 1 (f0, f1, f2, a1, a2, a3, a4, a5, a6, a7, a8, a9', a10', a11, a12, a13))
    (H0 : mq_ft C p c = none → post 0 (f0, f1, f2, a1, a2, a3, a4, a5, a6, a7, a8, a9, a10, a11, a12, a13)) :
    wpX_fits post (f0, f1, f2, a1, a2, a3, a4, a5, a6, a7, a8, a9, a10, a11, a12, a13) (nI l) p c := by
  obtain ⟨k, rfl, hk⟩ := hp
  unfold wpX_fits
  dsimp only
  refine pk_lt k 8 (fun z => ?_) (fun z => ?_)
  · have hk3 : k < 3 := by omega
    have ep : nI k < 8 := nI_lt z (by decide)
    refine ⟨pk_in k 3 hk3, ?_⟩
    rw [nI_clamp (show k < 2 ^ 31 by omega), nI_clamp (show l < 2 ^ 31 by omega)]
    refine br_c (fun g => ⟨pk_in k 3 hk3, nm_e ⟨pk_in l 5 hl, pk_in l 5 hl, nm_e ?_⟩⟩) (fun g => ⟨pk_in k 3 hk3, br_c (fun g2 => ?_) (fun g2 => ?_)⟩)
    · have e : mq_ft C (nI k) c = some (upd C k c) := by
        unfold mq_ft
        rw [if_pos ep, nI_clamp (show k < 2 ^ 31 by omega), if_pos (by rw [← hC k hk3]; exact g)]
      refine H1 (upd C k c) (bm ||| 2 ^ k) _ _ e (fun i hi => pk_un hi) (mq_orb bm hb k hk3).1 ?_ (mq_Ru hb hk3 hR g) (fun v hv => ?_)
      · rw [pk_us, h9, mq_sh k (by omega), mq_or]
      · by_cases ev : v = k
        · rw [ev, pk_us, pk_us]
        · rw [pk_un ev, pk_un ev]; exact hC v hv
    · have e : mq_ft C (nI k) c = some C := by
        unfold mq_ft
        rw [if_pos ep, nI_clamp (show k < 2 ^ 31 by omega), if_neg (by rw [← hC k hk3]; exact g), if_pos (by rw [← hC k hk3]; exact g2)]
      exact H1 C bm a9 a10 e (fun i _ => rfl) hb h9 hR hC
    · have e : mq_ft C (nI k) c = none := by
        unfold mq_ft
        rw [if_pos ep, nI_clamp (show k < 2 ^ 31 by omega), if_neg (by rw [← hC k hk3]; exact g), if_neg (by rw [← hC k hk3]; exact g2)]
      exact H0 e
  · have ep : ¬ nI k < 8 := nI_nlt z (by omega)
    refine br_c (fun g => ?_) (fun g => ?_)
    · exact H1 C bm a9 a10 (by unfold mq_ft; rw [if_neg ep, if_pos g]) (fun i _ => rfl) hb h9 hR hC
    · exact H0 (by unfold mq_ft; rw [if_neg ep, if_neg g])
theorem mq_st_n {E : Nat → Int32} {l f : Nat} (h : ¬ a3 f = a5 l) : mq_st a1 a2 a3 a5 a6 a7 E l f = none := by unfold mq_st; rw [if_neg h]
theorem mq_st_0 {E : Nat → Int32} {l f : Nat} (h : a3 f = a5 l) (e : mq_ft E (a6 l) (a1 f) = none) : mq_st a1 a2 a3 a5 a6 a7 E l f = none := by unfold mq_st; rw [if_pos h, e]
theorem mq_st_1 {E C : Nat → Int32} {l f : Nat} (h : a3 f = a5 l) (e : mq_ft E (a6 l) (a1 f) = some C) : mq_st a1 a2 a3 a5 a6 a7 E l f = mq_ft C (a7 l) (a2 f) := by unfold mq_st; rw [if_pos h, e]
theorem mr_adv {post : Int32 → St1 → Prop} {f2 : Int32} {N K l j bm : Nat} {E : Nat → Int32} (hN : N ≤ 9) (hl : l < 4) (hp6 : mq_pl (a6 l)) (hp7 : mq_pl (a7 l)) (hb : bm < 8) (h9 : a9 l = nI bm) (hR : mq_R bm a10 E) (h8 : a8 l + 1 = nI j) (hj : j ≤ N)
    (H1 : ∀ (f : Nat) (E' : Nat → Int32) (bm' : Nat) (a8' a9' a10' : Nat → Int32), j ≤ f → f < N → (∀ g, j ≤ g → g < f → mq_st a1 a2 a3 a5 a6 a7 E l g = none) → mq_st a1 a2 a3 a5 a6 a7 E l f = some E' → (∀ i, i ≠ l → a8' i = a8 i) → a8' l = nI f → (∀ i, i ≠ l → a9' i = a9 i) → bm' < 8 → a9' l = nI bm' → mq_R bm' a10' E → (∀ v, v < 3 → a10' v = E' v) → post 1 (nI N, nI K, f2, a1, a2, a3, a4, a5, a6, a7, a8', a9', a10', a11, a12, a13))
    (H0 : ∀ a8' a9' a10' : Nat → Int32, (∀ g, j ≤ g → g < N → mq_st a1 a2 a3 a5 a6 a7 E l g = none) → (∀ i, i ≠ l → a8' i = a8 i) → (∀ i, i ≠ l → a9' i = a9 i) → (∀ v, v < 3 → a10' v = E v) → post 0 (nI N, nI K, f2, a1, a2, a3, a4, a5, a6, a7, a8', a9', a10', a11, a12, a13)) :
    wpX_advance post (nI N, nI K, f2, a1, a2, a3, a4, a5, a6, a7, a8, a9, a10, a11, a12, a13) (nI l) := by
  unfold wpX_advance
  dsimp only
  refine mr_rel (by omega) hb h9 hR (fun b9 b10 k1 k2 k3 => ?_)
  dsimp only
  refine ⟨pk_in l 5 (by omega), nm_r (e' := nI j) (by rw [nI_clamp (show l < 2 ^ 31 by omega)]; exact h8) ?_⟩
  refine pk_loop (fun n i s => wX_advance_14 post (nI l) n (nI i) (nI N) (nI K) f2 a1 a2 a3 a4 a5 a6 a7 s.1 s.2.1 s.2.2 a11 a12 a13)
    (fun i (s : (Nat → Int32) × (Nat → Int32) × (Nat → Int32)) => j ≤ i ∧ (∀ g, j ≤ g → g < i → mq_st a1 a2 a3 a5 a6 a7 E l g = none) ∧ (∀ q, q ≠ l → s.1 q = a8 q) ∧ (∀ q, q ≠ l → s.2.1 q = a9 q) ∧ s.2.1 l = nI 0 ∧ (∀ v, v < 3 → s.2.2 v = E v)) N j (a8, b9, b10) hj ⟨Nat.le_refl j, fun g g1 g2 => absurd g2 (by omega), fun q _ => rfl, k1, k2, k3⟩ ?_ ?_
  · intro n s hs
    obtain ⟨c8, c9, c10⟩ := s
    obtain ⟨_, i1, i2, i3, i4, i5⟩ := hs
    exact pk_le N N (fun _ => H0 c8 c9 c10 i1 i2 i3 i5) (fun z => absurd z (by omega))
  · intro n i s hi hs hw
    obtain ⟨c8, c9, c10⟩ := s
    obtain ⟨ij, i1, i2, i3, i4, i5⟩ := hs
    dsimp only at i2 i3 i4 i5
    have nx : ∀ (b9 b10 : Nat → Int32), mq_st a1 a2 a3 a5 a6 a7 E l i = none → (∀ q, q ≠ l → b9 q = a9 q) → b9 l = nI 0 → (∀ v, v < 3 → b10 v = E v) → wX_advance_14 post (nI l) n (nI (i + 1)) (nI N) (nI K) f2 a1 a2 a3 a4 a5 a6 a7 (upd c8 l (nI i)) b9 b10 a11 a12 a13 := by
      intro b9 b10 hn q1 q2 q3
      refine hw (upd c8 l (nI i), b9, b10) ⟨by omega, fun g g1 g2 => ?_, fun q hq => ?_, q1, q2, q3⟩
      · by_cases e : g = i
        · rw [e]; exact hn
        · exact i1 g g1 (by omega)
      · show upd c8 l (nI i) q = a8 q
        rw [pk_un hq]; exact i2 q hq
    have ux : ∀ q, q ≠ l → upd c8 l (nI i) q = a8 q := fun q hq => by rw [pk_un hq]; exact i2 q hq
    refine pk_le N i (fun z => absurd z (by omega)) (fun _ => ⟨pk_in l 5 (by omega), nm_e ⟨pk_in i 9 (by omega), pk_in l 4 hl, ?_⟩⟩)
    dsimp only
    rw [nI_clamp (show l < 2 ^ 31 by omega), nI_clamp (show i < 2 ^ 31 by omega)]
    refine br_c (fun g => ⟨pk_in l 4 hl, pk_in i 9 (by omega), ?_⟩) (fun g => nm_r (nI_1 i) (nx c9 c10 (mq_st_n g) i3 i4 i5))
    refine mr_fits (bm := 0) (E := E) (C := E) (by omega) hp6 (by omega) i4 (mq_R0 i5) i5 (fun C' bm' d9 d10 e1 e2 e3 e4 e5 e6 => ?_) (fun e1 => ?_)
    · refine br_f (by decide) ⟨pk_in l 4 hl, pk_in i 9 (by omega), ?_⟩
      have j2 : ∀ q, q ≠ l → d9 q = a9 q := fun q hq => by rw [e2 q hq]; exact i3 q hq
      refine mr_fits (bm := bm') (E := E) (C := C') (by omega) hp7 e3 e4 e5 e6 (fun C2 bm2 g9 g10 q1 q2 q3 q4 q5 q6 => ?_) (fun q1 => ?_)
      · exact br_f (by decide) (H1 i C2 bm2 (upd c8 l (nI i)) g9 g10 ij hi i1 (by rw [mq_st_1 g e1]; exact q1) ux pk_us (fun q hq => by rw [q2 q hq]; exact j2 q hq) q3 q4 q5 q6)
      · refine br_t rfl (mr_rel (by omega) e3 e4 e5 (fun g9 g10 q2 q3 q4 => ?_))
        exact nm_r (nI_1 i) (nx g9 g10 (by rw [mq_st_1 g e1]; exact q1) (fun q hq => by rw [q2 q hq]; exact j2 q hq) q3 q4)
    · refine br_t rfl (br_t rfl (mr_rel (bm := 0) (by omega) (by omega) i4 (mq_R0 i5) (fun g9 g10 q2 q3 q4 => ?_)))
      exact nm_r (nI_1 i) (nx g9 g10 (mq_st_0 g e1) (fun q hq => by rw [q2 q hq]; exact i3 q hq) q3 q4)
end
end
section
/-! the walk: factsOfMatch, the search, findMatches -/
section
variable {a1 a2 a3 a4 a5 a6 a7 a8 a9 a10 a11 a12 a13 : Nat → Int32}
/-- the set of the facts tried below level l -/
def mq_A (a8 : Nat → Int32) : Nat → Nat
  | 0 => 0
  | l + 1 => mq_A a8 l ||| 2 ^ (a8 l).toNatClampNeg
theorem mq_A_s (b8 : Nat → Int32) (l : Nat) : mq_A b8 (l + 1) = mq_A b8 l ||| 2 ^ (b8 l).toNatClampNeg := rfl
theorem mq_A_cg {b8 c8 : Nat → Int32} : ∀ l, (∀ i, i < l → b8 i = c8 i) → mq_A b8 l = mq_A c8 l := by
  intro l
  induction l with
  | zero => intro _; rfl
  | succ l ih => intro h; rw [mq_A_s, mq_A_s, ih (fun i hi => h i (by omega)), h l (by omega)]
theorem mq_A_lt {N : Nat} {b8 : Nat → Int32} (hN : N ≤ 9) : ∀ l, (∀ i, i < l → ∃ t, t < N ∧ b8 i = nI t) → mq_A b8 l < 2 ^ N := by
  intro l
  induction l with
  | zero => intro _; exact mq_pos N
  | succ l ih =>
    intro h
    obtain ⟨t, ht, e⟩ := h l (by omega)
    rw [mq_A_s, e, nI_clamp (by omega)]
    exact Nat.or_lt_two_pow (ih (fun i hi => h i (by omega))) (mq_lt2 ht)
theorem mr_fom {post : Int32 → Prop} {f0 f2 : Int32} {N K : Nat} (hN : N ≤ 9) (hK : K ≤ 4) (h8 : ∀ i, i < K → ∃ t, t < N ∧ a8 i = nI t) (H : post (nI (mq_A a8 K))) :
    wpX_factsOfMatch post (f0, nI K, f2, a1, a2, a3, a4, a5, a6, a7, a8, a9, a10, a11, a12, a13) := by
  unfold wpX_factsOfMatch
  dsimp only
  refine pk_loop (fun n i s => wX_factsOfMatch_4 post f0 (nI K) f2 a1 a2 a3 a4 a5 a6 a7 a8 a9 a10 a11 a12 a13 n s (nI i)) (fun i s => s = nI (mq_A a8 i)) K 0 0 (by omega) rfl ?_ ?_
  · intro n s hs
    rw [hs]
    exact pk_le K K (fun _ => H) (fun z => absurd z (by omega))
  · intro n i s hi hs hw
    obtain ⟨t, ht, e⟩ := h8 i hi
    refine pk_le K i (fun z => absurd z (by omega)) (fun _ => ⟨pk_in i 5 (by omega), nm_e (nm_r (nI_1 i) (hw _ ?_))⟩)
    rw [nI_clamp (show i < 2 ^ 31 by omega), e, mq_sh t (by omega), hs, mq_or]
    rw [mq_A_s, e, nI_clamp (by omega)]
def mq_w : Nat → Nat
  | 0 => 1
  | d + 1 => 2 + 9 * mq_w d
theorem mq_cost1 {x c N f j w : Nat} (hc : j + c = N) (h1 : j ≤ f) (h2 : f < N) (hw : 1 ≤ w) (hx : x + (1 + c * w) ≤ 40000) : x + 1 + (1 + (N - (f + 1)) * w) ≤ x + (1 + c * w) := by
  have e : (N - (f + 1) + 1) * w ≤ c * w := Nat.mul_le_mul_right w (by omega)
  rw [Nat.add_mul] at e
  omega
theorem mq_cost2 {x x' c N f j w : Nat} (hN : N ≤ 9) (hc : j + c = N) (h1 : j ≤ f) (h2 : f < N) (hx : x' ≤ x + 1 + (1 + N * w)) : x' + (1 + (N - (f + 1)) * (2 + 9 * w)) ≤ x + (1 + c * (2 + 9 * w)) := by
  have e : (N - (f + 1) + 1) * (2 + 9 * w) ≤ c * (2 + 9 * w) := Nat.mul_le_mul_right _ (by omega)
  have e2 : N * w ≤ 9 * w := Nat.mul_le_mul_right w hN
  rw [Nat.add_mul] at e
  omega
theorem mq_cost3 {x c N f j w : Nat} (hN : N ≤ 9) (hc : j + c = N) (h1 : j ≤ f) (h2 : f < N) : x + 1 + (1 + N * w) ≤ x + (1 + c * (2 + 9 * w)) := by
  have e : 1 * (2 + 9 * w) ≤ c * (2 + 9 * w) := Nat.mul_le_mul_right _ (by omega)
  have e2 : N * w ≤ 9 * w := Nat.mul_le_mul_right w hN
  omega
/-- the matches from fact j on: none below f, those of f, those behind f -/
theorem mq_cut {st : (Nat → Int32) → Nat → Nat → Option (Nat → Int32)} {N d l j f A T : Nat} {E E' : Nat → Int32} {P Q R : Prop} (h1 : j ≤ f) (h2 : f < N) (hn : ∀ g, j ≤ g → g < f → st E l g = none) (he : st E l f = some E')
    (hQ : Q ↔ P ∨ mq_mt st N d (l + 1) E' (A ||| 2 ^ f) T)
    (hR : R ↔ Q ∨ ∃ g, f + 1 ≤ g ∧ g < N ∧ ∃ F, st E l g = some F ∧ mq_mt st N d (l + 1) F (A ||| 2 ^ g) T) :
    R ↔ P ∨ ∃ g, j ≤ g ∧ g < N ∧ ∃ F, st E l g = some F ∧ mq_mt st N d (l + 1) F (A ||| 2 ^ g) T := by
  rw [hR, hQ]
  constructor
  · rintro ((h | h) | ⟨g, g1, g2, F, e, m⟩)
    · exact Or.inl h
    · exact Or.inr ⟨f, h1, h2, E', he, h⟩
    · exact Or.inr ⟨g, by omega, g2, F, e, m⟩
  · rintro (h | ⟨g, g1, g2, F, e, m⟩)
    · exact Or.inl (Or.inl h)
    · rcases Nat.lt_trichotomy g f with z | z | z
      · rw [hn g g1 z] at e; exact absurd e (by simp)
      · subst z
        rw [he] at e
        have : E' = F := Option.some.inj e
        subst this
        exact Or.inl (Or.inr m)
      · exact Or.inr ⟨g, by omega, g2, F, e, m⟩
theorem mq_upd1 {a11 : Nat → Int32} {A T : Nat} : ¬ upd a11 A 1 T = 0 ↔ ¬ a11 T = 0 ∨ T = A := by
  by_cases e : T = A
  · subst e; rw [pk_us]; exact ⟨fun _ => Or.inr rfl, fun _ => by decide⟩
  · rw [pk_un e]; exact ⟨fun h => Or.inl h, fun h => h.elim id (fun z => absurd z e)⟩
theorem mr_dfs {post : St1 → Prop} {f2 : Int32} {N K : Nat} (hN : N ≤ 9) (hK : K ≤ 4) (hp : ∀ l, l < K → mq_pl (a6 l) ∧ mq_pl (a7 l)) :
    ∀ (d l : Nat), l + d + 1 = K → ∀ (c j : Nat), j + c = N → ∀ (E a8 a9 a10 a11 : Nat → Int32) (x bm : Nat), a8 l + 1 = nI j → bm < 8 → a9 l = nI bm → mq_R bm a10 E → (∀ i, i < l → ∃ t, t < N ∧ a8 i = nI t) → x + (1 + c * mq_w d) ≤ 40000 →
      (∀ (b8 b9 b10 b11 : Nat → Int32) (x' : Nat), (∀ i, i < l → b8 i = a8 i) → (∀ i, i < l → b9 i = a9 i) → (∀ v, v < 3 → b10 v = E v) → (∀ T, ¬ b11 T = 0 ↔ ¬ a11 T = 0 ∨ ∃ f, j ≤ f ∧ f < N ∧ ∃ E', mq_st a1 a2 a3 a5 a6 a7 E l f = some E' ∧ mq_mt (mq_st a1 a2 a3 a5 a6 a7) N d (l + 1) E' (mq_A a8 l ||| 2 ^ f) T) → x' ≤ x + (1 + c * mq_w d) → ∀ n, n + x' = 40001 → wX_findMatches_75 post n (nI l + (-1)) (nI x') (nI N) (nI K) f2 a1 a2 a3 a4 a5 a6 a7 b8 b9 b10 b11 a12 a13) →
      ∀ n, n + x = 40001 → wX_findMatches_75 post n (nI l) (nI x) (nI N) (nI K) f2 a1 a2 a3 a4 a5 a6 a7 a8 a9 a10 a11 a12 a13 := by
  intro d
  induction d with
  | zero =>
    intro l hl c
    induction c using Nat.strongRecOn with
    | ind c ihc =>
      intro j hj E a8 a9 a10 a11 x bm h8 hb h9 hR ht hx H n hn
      obtain ⟨n, rfl⟩ : ∃ m, n = m + 1 := ⟨n - 1, by omega⟩
      refine pk_le 40000 x (fun z => absurd z (by omega)) (fun _ => pk_lt l 0 (fun z => absurd z (by omega)) (fun _ => ?_))
      refine mr_adv hN (by omega) (hp l (by omega)).1 (hp l (by omega)).2 hb h9 hR h8 (by omega) (fun f E' bm' b8 b9 b10 g1 g2 g3 g4 g5 g6 g7 g8 g9 g10 g11 => ?_) (fun b8 b9 b10 g1 g2 g3 g4 => ?_)
      · refine br_f (by decide) (pk_eq (l + 1) K (fun _ => ?_) (fun z => absurd (show l + 1 = K by omega) z) (nI_1 l))
        have hA : mq_A b8 K = mq_A a8 l ||| 2 ^ f := by
          rw [← (show l + 1 = K by omega)]
          rw [mq_A_s, mq_A_cg l (fun i hi => g5 i (by omega)), g6, nI_clamp (by omega)]
        have hT : ∀ i, i < K → ∃ t, t < N ∧ b8 i = nI t := by
          intro i hi
          by_cases e : i = l
          · rw [e]; exact ⟨f, g2, g6⟩
          · rw [g5 i e]; exact ht i (by omega)
        have hlt := mq_A_lt hN K hT
        have h512 := mq_pow hN
        refine mr_fom hN hK hT ⟨pk_in (mq_A b8 K) 512 (by omega), nm_e (nm_r (nI_1 x) ?_)⟩
        rw [nI_clamp (show mq_A b8 K < 2 ^ 31 by omega)]
        have hcost := mq_cost1 (w := mq_w 0) hj g1 g2 (Nat.le_refl 1) hx
        refine ihc (N - (f + 1)) (by omega) (f + 1) (by omega) E b8 b9 b10 _ (x + 1) bm' (by rw [g6, nI_1]) g8 g9 g10 (fun i hi => hT i (by omega)) (Nat.le_trans hcost hx) (fun c8 c9 c10 c11 x' q1 q2 q3 q4 q5 => ?_) n (by omega)
        refine H c8 c9 c10 c11 x' (fun i hi => by rw [q1 i hi, g5 i (by omega)]) (fun i hi => by rw [q2 i hi, g7 i (by omega)]) q3 (fun T => ?_) (Nat.le_trans q5 hcost)
        have q := q4 T
        rw [mq_A_cg l (fun i hi => g5 i (by omega)), hA] at q
        exact mq_cut g1 g2 g3 g4 mq_upd1 q
      · refine br_t rfl (nm_e (nm_r (nI_1 x) (H b8 b9 b10 a11 (x + 1) (fun i hi => g2 i (by omega)) (fun i hi => g3 i (by omega)) g4 (fun T => ⟨fun z => Or.inl z, fun z => z.elim id (fun ⟨g, q1, q2, F, e, _⟩ => ?_)⟩) (by omega) n (by omega))))
        rw [g1 g q1 q2] at e
        exact absurd e (by simp)
  | succ d ihd =>
    intro l hl c
    induction c using Nat.strongRecOn with
    | ind c ihc =>
      intro j hj E a8 a9 a10 a11 x bm h8 hb h9 hR ht hx H n hn
      obtain ⟨n, rfl⟩ : ∃ m, n = m + 1 := ⟨n - 1, by omega⟩
      refine pk_le 40000 x (fun z => absurd z (by omega)) (fun _ => pk_lt l 0 (fun z => absurd z (by omega)) (fun _ => ?_))
      refine mr_adv hN (by omega) (hp l (by omega)).1 (hp l (by omega)).2 hb h9 hR h8 (by omega) (fun f E' bm' b8 b9 b10 g1 g2 g3 g4 g5 g6 g7 g8 g9 g10 g11 => ?_) (fun b8 b9 b10 g1 g2 g3 g4 => ?_)
      · refine br_f (by decide) (pk_eq (l + 1) K (fun z => absurd z (by omega)) (fun _ => ?_) (nI_1 l))
        have hw : mq_w (d + 1) = 2 + 9 * mq_w d := rfl
        have hx : x + (1 + c * (2 + 9 * mq_w d)) ≤ 40000 := hx
        have hc3 := mq_cost3 (x := x) (w := mq_w d) hN hj g1 g2
        refine nm_r (nI_1 l) ⟨pk_in (l + 1) 5 (by omega), nm_e ⟨pk_in (l + 1) 5 (by omega), nm_e (nm_r (nI_1 x) ?_)⟩⟩
        rw [nI_clamp (show l + 1 < 2 ^ 31 by omega)]
        have hT : ∀ i, i < l + 1 → ∃ t, t < N ∧ b8 i = nI t := by
          intro i hi
          by_cases e : i = l
          · rw [e]; exact ⟨f, g2, g6⟩
          · rw [g5 i e]; exact ht i (by omega)
        have hA : mq_A b8 (l + 1) = mq_A a8 l ||| 2 ^ f := by
          rw [mq_A_s, mq_A_cg l (fun i hi => g5 i (by omega)), g6, nI_clamp (by omega)]
        refine ihd (l + 1) (by omega) N 0 (by omega) E' (upd b8 (l + 1) (-1)) (upd b9 (l + 1) 0) b10 a11 (x + 1) 0 (by rw [pk_us]; rfl) (by omega) (by rw [pk_us]; rfl) (mq_R0 g11) (fun i hi => by rw [pk_un (by omega)]; exact hT i hi) (Nat.le_trans hc3 hx) (fun c8 c9 c10 c11 x' q1 q2 q3 q4 q5 => ?_) n (by omega)
        intro n hn'
        rw [pk_m1]
        have hc2 := mq_cost2 (x := x) (w := mq_w d) hN hj g1 g2 q5
        have q1' : ∀ i, i < l + 1 → c8 i = b8 i := fun i hi => by rw [q1 i hi, pk_un (by omega)]
        have q2' : ∀ i, i < l + 1 → c9 i = b9 i := fun i hi => by rw [q2 i hi, pk_un (by omega)]
        refine ihc (N - (f + 1)) (by omega) (f + 1) (by omega) E c8 c9 c10 c11 x' bm' (by rw [q1' l (by omega), g6, nI_1]) g8 (by rw [q2' l (by omega), g9]) (mq_Rv g10 (fun v hv => by rw [q3 v hv, g11 v hv])) (fun i hi => by rw [q1' i (by omega)]; exact hT i (by omega)) (Nat.le_trans hc2 hx) (fun e8 e9 e10 e11 x2 r1 r2 r3 r4 r5 => ?_) n hn'
        refine H e8 e9 e10 e11 x2 (fun i hi => by rw [r1 i hi, q1' i (by omega), g5 i (by omega)]) (fun i hi => by rw [r2 i hi, q2' i (by omega), g7 i (by omega)]) r3 (fun T => ?_) (Nat.le_trans r5 hc2)
        have r := r4 T
        have q := q4 T
        rw [mq_A_cg l (fun i hi => (by rw [q1' i (by omega), g5 i (by omega)] : c8 i = a8 i))] at r
        rw [mq_A_cg (l + 1) (fun i hi => (pk_un (by omega) : upd b8 (l + 1) (-1) i = b8 i)), hA] at q
        refine mq_cut g1 g2 g3 g4 (q.trans ?_) r
        constructor
        · rintro (z | ⟨h, _, h2, F, e, m⟩)
          · exact Or.inl z
          · exact Or.inr ⟨h, h2, F, e, m⟩
        · rintro (z | ⟨h, h2, F, e, m⟩)
          · exact Or.inl z
          · exact Or.inr ⟨h, by omega, h2, F, e, m⟩
      · refine br_t rfl (nm_e (nm_r (nI_1 x) (H b8 b9 b10 a11 (x + 1) (fun i hi => g2 i (by omega)) (fun i hi => g3 i (by omega)) g4 (fun T => ⟨fun z => Or.inl z, fun z => z.elim id (fun ⟨g, q1, q2, F, e, _⟩ => ?_)⟩) (by omega) n (by omega))))
        rw [g1 g q1 q2] at e
        exact absurd e (by simp)
theorem mr_find {post : St1 → Prop} {f2 : Int32} {N K : Nat} (hN : N ≤ 9) (hK : K ≤ 4) (hp : ∀ l, l < K → mq_pl (a6 l) ∧ mq_pl (a7 l))
    (H : ∀ b8 b9 b10 b11 : Nat → Int32, (∀ T, T < 512 → (¬ b11 T = 0 ↔ mq_mt (mq_st a1 a2 a3 a5 a6 a7) N K 0 mq_fr 0 T)) → post (nI N, nI K, f2, a1, a2, a3, a4, a5, a6, a7, b8, b9, b10, b11, a12, a13)) :
    wpX_findMatches post (nI N, nI K, f2, a1, a2, a3, a4, a5, a6, a7, a8, a9, a10, a11, a12, a13) := by
  unfold wpX_findMatches
  dsimp only
  refine pk_loop (fun n i s => wX_findMatches_2 post (nI N) (nI K) f2 n (nI i) a1 a2 a3 a4 a5 a6 a7 a8 a9 a10 s a12 a13) (fun i s => ∀ T, T < i → s T = 0) 512 0 a11 (by omega) (fun T hT => absurd hT (by omega)) ?_ ?_
  · intro n s hs
    refine pk_le 512 512 (fun _ => ?_) (fun z => absurd z (by omega))
    refine pk_loop (fun n i t => wX_findMatches_24 post (nI N) (nI K) f2 n (nI i) a1 a2 a3 a4 a5 a6 a7 a8 a9 t s a12 a13) (fun i t => ∀ v, v < i → t v = -1) 3 0 a10 (by omega) (fun T hT => absurd hT (by omega)) ?_ ?_
    · intro n t ht
      refine pk_le 3 3 (fun _ => pk_eq K 0 (fun z => nm_e ?_) (fun z => nm_e (nm_e ⟨40001, ?_⟩))) (fun z => absurd z (by omega))
      · refine H _ _ _ _ (fun T hT => ?_)
        subst z
        have h0 : ¬ upd s 0 1 T = 0 ↔ T = 0 := by
          rw [mq_upd1, hs T hT]
          exact ⟨fun z => z.elim (fun q => absurd rfl q) id, fun z => Or.inr z⟩
        exact h0
      · obtain ⟨d, hd⟩ : ∃ d, K = d + 1 := ⟨K - 1, by omega⟩
        refine mr_dfs hN hK hp d 0 (by omega) N 0 (by omega) mq_fr (upd a8 0 (-1)) (upd a9 0 0) t s 0 0 (by rw [pk_us]; rfl) (by omega) (by rw [pk_us]; rfl) (mq_R0 ht) (fun i hi => absurd hi (by omega)) ?_ (fun b8 b9 b10 b11 x' _ _ _ g4 g5 n' hn => ?_) 40001 rfl
        · have h3 : mq_w d ≤ 911 := by
            have : d = 0 ∨ d = 1 ∨ d = 2 ∨ d = 3 := by omega
            rcases this with z | z | z | z <;> subst z <;> decide
          have := Nat.mul_le_mul hN h3
          omega
        · have h3 : mq_w d ≤ 911 := by
            have : d = 0 ∨ d = 1 ∨ d = 2 ∨ d = 3 := by omega
            rcases this with z | z | z | z <;> subst z <;> decide
          have := Nat.mul_le_mul hN h3
          obtain ⟨n', rfl⟩ : ∃ m, n' = m + 1 := ⟨n' - 1, by omega⟩
          refine pk_le 40000 x' (fun z => absurd z (by omega)) (fun _ => br_t (by decide) ?_)
          refine H _ _ _ _ (fun T hT => ?_)
          rw [g4 T, hs T hT]
          subst hd
          constructor
          · rintro (z | ⟨f, _, h2, F, e, m⟩)
            · exact absurd rfl z
            · exact ⟨f, h2, F, e, m⟩
          · rintro ⟨f, h2, F, e, m⟩
            exact Or.inr ⟨f, by omega, h2, F, e, m⟩
    · intro n i t hi ht hw
      refine pk_le 3 i (fun z => absurd z (by omega)) (fun _ => ⟨pk_in i 3 hi, nm_e (nm_r (nI_1 i) (hw _ (fun v hv => ?_)))⟩)
      rw [nI_clamp (show i < 2 ^ 31 by omega)]
      by_cases e : v = i
      · rw [e, pk_us]
      · rw [pk_un e]; exact ht v (by omega)
  · intro n i s hi hs hw
    refine pk_le 512 i (fun z => absurd z (by omega)) (fun _ => ⟨pk_in i 512 hi, nm_e (nm_r (nI_1 i) (hw _ (fun v hv => ?_)))⟩)
    rw [nI_clamp (show i < 2 ^ 31 by omega)]
    by_cases e : v = i
    · rw [e, pk_us]
    · rw [pk_un e]; exact hs v (by omega)
end
end
section
/-! the walk: yesBelow, prepare, fold, the questions -/
section
variable {a1 a2 a3 a4 a5 a6 a7 a8 a9 a10 a11 a12 a13 : Nat → Int32}
theorem mr_below {post : Int32 → Prop} {f1 f2 : Int32} {N s : Nat} (hN : N ≤ 9) (hs : s < 2 ^ N)
    (H1 : (∃ f, f < N ∧ s.testBit f = true ∧ ¬ a12 (s ^^^ 2 ^ f) = 0) → post 1) (H0 : (∀ f, f < N → s.testBit f = true → a12 (s ^^^ 2 ^ f) = 0) → post 0) :
    wpX_yesBelow post (nI N, f1, f2, a1, a2, a3, a4, a5, a6, a7, a8, a9, a10, a11, a12, a13) (nI s) := by
  have h512 := mq_pow hN
  unfold wpX_yesBelow
  dsimp only
  refine pk_loop (σ := Unit) (fun n i _ => wX_yesBelow_2 post (nI s) (nI N) f1 f2 a1 a2 a3 a4 a5 a6 a7 a8 a9 a10 a11 a12 a13 n (nI i)) (fun i _ => ∀ f, f < i → s.testBit f = true → a12 (s ^^^ 2 ^ f) = 0) N 0 () (by omega) (fun f hf => absurd hf (by omega)) ?_ ?_
  · intro n _ h
    exact pk_le N N (fun _ => H0 h) (fun z => absurd z (by omega))
  · intro n i _ hi h hw
    refine pk_le N i (fun z => absurd z (by omega)) (fun _ => ek_if (mq_bit1 (by omega) (by omega)) (fun z => ?_) (fun z => nm_r (nI_1 i) (hw () (fun f hf hb => ?_))))
    · have hc := mq_clr s (by omega) i (by omega) z
      rw [hc.1, nI_clamp (by omega)]
      refine ⟨pk_in (s ^^^ 2 ^ i) 512 (by omega), br_c (fun g => nm_r (nI_1 i) (hw () (fun f hf hb => ?_))) (fun g => H1 ⟨i, hi, z, g⟩)⟩
      by_cases e : f = i
      · rw [e]; exact g
      · exact h f (by omega) hb
    · by_cases e : f = i
      · rw [e] at hb; exact absurd hb z
      · exact h f (by omega) hb
theorem mr_prep {post : St1 → Prop} {f2 : Int32} {N K : Nat} (hN : N ≤ 9) (hK : K ≤ 4) (hp : ∀ l, l < K → mq_pl (a6 l) ∧ mq_pl (a7 l)) (hr : f2 = 0 ∨ (f2 = 1 ∧ mq_PR (mq_st a1 a2 a3 a5 a6 a7) N K a11 a12))
    (H : ∀ b8 b9 b10 b11 b12 : Nat → Int32, mq_PR (mq_st a1 a2 a3 a5 a6 a7) N K b11 b12 → post (nI N, nI K, 1, a1, a2, a3, a4, a5, a6, a7, b8, b9, b10, b11, b12, a13)) :
    wpX_prepare post (nI N, nI K, f2, a1, a2, a3, a4, a5, a6, a7, a8, a9, a10, a11, a12, a13) := by
  have h512 := mq_pow hN
  unfold wpX_prepare
  dsimp only
  rcases hr with rfl | ⟨rfl, hr⟩
  · refine br_t rfl (mr_find hN hK hp (fun b8 b9 b10 b11 hm => ?_))
    dsimp only
    refine pk_loop (fun n i s => wX_prepare_19 post (nI N) (nI K) 1 n (nI i) a1 a2 a3 a4 a5 a6 a7 b8 b9 b10 b11 s a13) (fun i s => (∀ t, t < i → s t = 0 ∨ s t = 1) ∧ (∀ t, t < i → (s t = 1 ↔ mq_ys (mq_st a1 a2 a3 a5 a6 a7) N K 0 mq_fr t))) (2 ^ N) 0 a12 (Nat.zero_le _) ⟨fun t ht => absurd ht (by omega), fun t ht => absurd ht (by omega)⟩ ?_ ?_
    · intro n s hs
      exact pk_le (2 ^ N) (2 ^ N) (fun _ => H _ _ _ _ _ ⟨fun T hT => hm T (by omega), hs.1, hs.2⟩) (fun z => absurd z (by omega)) (mq_sh N (by omega))
    · intro n i s hi hs hw
      have nx : ∀ v : Int32, (v = 0 ∨ v = 1) → (v = 1 ↔ mq_ys (mq_st a1 a2 a3 a5 a6 a7) N K 0 mq_fr i) → wX_prepare_19 post (nI N) (nI K) 1 n (nI (i + 1)) a1 a2 a3 a4 a5 a6 a7 b8 b9 b10 b11 (upd s i v) a13 := by
        intro v h1 h2
        refine hw (upd s i v) ⟨fun t ht => ?_, fun t ht => ?_⟩
        · by_cases e : t = i
          · rw [e, pk_us]; exact h1
          · rw [pk_un e]; exact hs.1 t (by omega)
        · by_cases e : t = i
          · rw [e, pk_us]; exact h2
          · rw [pk_un e]; exact hs.2 t (by omega)
      have y1 : ∀ f, f < N → i.testBit f = true → (¬ s (i ^^^ 2 ^ f) = 0 ↔ mq_ys (mq_st a1 a2 a3 a5 a6 a7) N K 0 mq_fr (i ^^^ 2 ^ f)) := by
        intro f hf hb
        have hlt := (mq_clr i (by omega) f (by omega) hb).2
        rw [← hs.2 _ hlt]
        rcases hs.1 _ hlt with z | z
        · rw [z]; decide
        · rw [z]; decide
      refine pk_le (2 ^ N) i (fun z => absurd z (by omega)) (fun _ => mr_below hN hi (fun h => ?_) (fun h => ?_)) (mq_sh N (by omega))
      · have hy : mq_ys (mq_st a1 a2 a3 a5 a6 a7) N K 0 mq_fr i := by
          obtain ⟨f, f1, f2, f3⟩ := h
          exact (mq_rec hi).mpr (Or.inr ⟨f, f1, f2, (y1 f f1 f2).mp f3⟩)
        have q := nx 1 (Or.inr rfl) ⟨fun _ => hy, fun _ => rfl⟩
        refine ⟨pk_in i 512 (by omega), ?_⟩
        rw [nI_clamp (show i < 2 ^ 31 by omega)]
        exact br_c (fun _ => br_f (by decide) ⟨pk_in i 512 (by omega), nm_e (nm_r (nI_1 i) q)⟩) (fun _ => ⟨pk_in i 512 (by omega), nm_e (nm_r (nI_1 i) q)⟩)
      · refine ⟨pk_in i 512 (by omega), ?_⟩
        rw [nI_clamp (show i < 2 ^ 31 by omega)]
        refine br_c (fun z => br_t rfl ⟨pk_in i 512 (by omega), nm_e (nm_r (nI_1 i) (nx 0 (Or.inl rfl) ⟨fun t => absurd t (by decide), fun t => ?_⟩))⟩) (fun z => ⟨pk_in i 512 (by omega), nm_e (nm_r (nI_1 i) (nx 1 (Or.inr rfl) ⟨fun _ => ?_, fun _ => rfl⟩))⟩)
        · rcases (mq_rec hi).mp t with q | ⟨f, f1, f2, f3⟩
          · exact absurd z ((hm i (by omega)).mpr q)
          · exact absurd (h f f1 f2) ((y1 f f1 f2).mpr f3)
        · exact (mq_rec hi).mpr (Or.inl ((hm i (by omega)).mp z))
  · exact br_f (by decide) (H _ _ _ _ _ hr)
theorem mr_fold63 {post : Int32 → St1 → Prop} {J : Int32 → (Nat → Int32) → (Nat → Int32) → (Nat → Int32) → (Nat → Int32) → (Nat → Int32) → (Nat → Int32) → (Nat → Int32) → (Nat → Int32) → (Nat → Int32) → (Nat → Int32) → (Nat → Int32) → (Nat → Int32) → (Nat → Int32) → Prop} {f0 f1 f2 : Int32} {k : Nat} {c g : Nat → Nat} (hk : k < 9) (hc : c k ≤ 4) (h4 : a4 k = nI (c k)) (h13 : ∀ s, s < 2 ^ (k + 1) → a13 s = nI (g s))
    (H : ∀ b13 : Nat → Int32, (∀ s, s < 2 ^ k → b13 s = nI (g s * (4 - c k) + g (s + 2 ^ k) * c k)) → J (nI k + (-1)) a1 a2 a3 a4 a5 a6 a7 a8 a9 a10 a11 a12 b13) :
    ∃ n, wX_fold_63 post J (nI k) (nI (2 ^ k)) f0 f1 f2 n 0 a1 a2 a3 a4 a5 a6 a7 a8 a9 a10 a11 a12 a13 := by
  have e2 : 2 ^ (k + 1) = 2 ^ k * 2 := Nat.pow_succ 2 k
  have h512 : 2 ^ (k + 1) ≤ 512 := mq_pow (by omega)
  refine pk_loop (fun n i s => wX_fold_63 post J (nI k) (nI (2 ^ k)) f0 f1 f2 n (nI i) a1 a2 a3 a4 a5 a6 a7 a8 a9 a10 a11 a12 s) (fun i s => (∀ t, t < i → s t = nI (g t * (4 - c k) + g (t + 2 ^ k) * c k)) ∧ (∀ t, i ≤ t → t < 2 ^ (k + 1) → s t = nI (g t))) (2 ^ k) 0 a13 (Nat.zero_le _) ⟨fun t ht => absurd ht (by omega), fun t _ ht => h13 t ht⟩ ?_ ?_
  · intro n s hs
    exact pk_le (2 ^ k) (2 ^ k) (fun _ => nm_e (H s hs.1)) (fun z => absurd z (by omega))
  · intro n i s hi hs hw
    refine pk_le (2 ^ k) i (fun z => absurd z (by omega)) (fun _ => ?_)
    rw [nI_add, nI_clamp (show i < 2 ^ 31 by omega), nI_clamp (show k < 2 ^ 31 by omega), nI_clamp (show i + 2 ^ k < 2 ^ 31 by omega)]
    refine ⟨pk_in i 512 (by omega), pk_in k 9 hk, pk_in (i + 2 ^ k) 512 (by omega), pk_in k 9 hk, pk_in i 512 (by omega), nm_e (nm_r (nI_1 i) (hw _ ⟨fun t ht => ?_, fun t ht ht2 => ?_⟩))⟩
    · by_cases e : t = i
      · have e4 : (4 : Int32) = nI 4 := rfl
        rw [e, pk_us, hs.2 i (by omega) (by omega), hs.2 (i + 2 ^ k) (by omega) (by omega), h4, e4, pk_sub hc, pk_mul, pk_mul, nI_add]
      · rw [pk_un e]; exact hs.1 t (by omega)
    · rw [pk_un (by omega)]; exact hs.2 t (by omega) ht2
theorem mr_fold52 {post : Int32 → St1 → Prop} {f0 f1 f2 : Int32} {N R : Nat} {c : Nat → Nat} (hN : N ≤ 9) (hc : ∀ j, j < N → c j ≤ 4) (h4 : ∀ j, j < N → a4 j = nI (c j))
    (H : ∀ b13 : Nat → Int32, post (nI R) (f0, f1, f2, a1, a2, a3, a4, a5, a6, a7, a8, a9, a10, a11, a12, b13)) (g : Nat → Nat) (hg : ∀ s, s < 2 ^ N → a13 s = nI (g s)) (hR : mq_fld c N g = R) :
    ∃ n, wX_fold_52 post f0 f1 f2 n (nI N - 1) a1 a2 a3 a4 a5 a6 a7 a8 a9 a10 a11 a12 a13 := by
  have key := pk_loopD (fun n i s => wX_fold_52 post f0 f1 f2 n (nI i + (-1)) a1 a2 a3 a4 a5 a6 a7 a8 a9 a10 a11 a12 s) (fun i s => i ≤ N ∧ ∃ g : Nat → Nat, (∀ s', s' < 2 ^ i → s s' = nI (g s')) ∧ mq_fld c i g = R) ?_ ?_ N a13 ⟨Nat.le_refl N, g, hg, hR⟩
  · have e : nI N - 1 = nI N + (-1) := Int32.sub_eq_add_neg (nI N) 1
    rw [e]
    exact ⟨N + 1, key⟩
  · rintro n s ⟨_, g, h1, h2⟩
    refine br_t (by decide) ?_
    have h3 : s 0 = nI R := by rw [h1 0 (by decide)]; rw [← h2]; rfl
    rw [h3]
    exact H s
  · rintro n i s ⟨hi, g, h1, h2⟩ hw
    rw [pk_m1]
    refine pk_lt i 0 (fun z => absurd z (by omega)) (fun _ => nm_r (mq_sh i (by omega)) ?_)
    exact mr_fold63 (g := g) (c := c) (by omega) (hc i (by omega)) (h4 i (by omega)) h1 (fun b13 hb => hw b13 ⟨by omega, _, hb, h2⟩)
theorem mr_fold {post : Int32 → St1 → Prop} {f1 f2 : Int32} {N M : Nat} {c : Nat → Nat} {P : Nat → Prop} (hN : N ≤ 9) (hc : ∀ j, j < N → c j ≤ 4) (h4 : ∀ j, j < N → a4 j = nI (c j)) (hM : M < 2 ^ 31) (hP : ∀ s, s < 2 ^ N → (P s ↔ ¬ a12 s = 0 ∧ s &&& M = M))
    (H : ∀ b13 : Nat → Int32, post (nI (mq_fld c N (fun s => mq_in (P s)))) (nI N, f1, f2, a1, a2, a3, a4, a5, a6, a7, a8, a9, a10, a11, a12, b13)) :
    wpX_fold post (nI N, f1, f2, a1, a2, a3, a4, a5, a6, a7, a8, a9, a10, a11, a12, a13) (nI M) := by
  have h512 := mq_pow hN
  unfold wpX_fold
  dsimp only
  refine pk_loop (fun n i s => wX_fold_2 post (nI M) (nI N) f1 f2 n (nI i) a1 a2 a3 a4 a5 a6 a7 a8 a9 a10 a11 a12 s) (fun i s => ∀ t, t < i → s t = nI (mq_in (P t))) (2 ^ N) 0 a13 (Nat.zero_le _) (fun t ht => absurd ht (by omega)) ?_ ?_
  · intro n s hs
    exact pk_le (2 ^ N) (2 ^ N) (fun _ => nm_e (mr_fold52 hN hc h4 H _ hs rfl)) (fun z => absurd z (by omega)) (mq_sh N (by omega))
  · intro n i s hi hs hw
    have nx : ∀ v : Int32, v = nI (mq_in (P i)) → wX_fold_2 post (nI M) (nI N) f1 f2 n (nI (i + 1)) a1 a2 a3 a4 a5 a6 a7 a8 a9 a10 a11 a12 (upd s i v) := by
      intro v hv
      refine hw (upd s i v) (fun t ht => ?_)
      by_cases e : t = i
      · rw [e, pk_us]; exact hv
      · rw [pk_un e]; exact hs t (by omega)
    refine pk_le (2 ^ N) i (fun z => absurd z (by omega)) (fun _ => ⟨pk_in i 512 (by omega), ?_⟩) (mq_sh N (by omega))
    rw [nI_clamp (show i < 2 ^ 31 by omega)]
    refine br_c (fun z => ⟨pk_in i 512 (by omega), nm_e (nm_r (nI_1 i) (nx 0 ?_))⟩) (fun z => br_c (fun z2 => ⟨pk_in i 512 (by omega), nm_e (nm_r (nI_1 i) (nx 1 ?_))⟩) (fun z2 => ⟨pk_in i 512 (by omega), nm_e (nm_r (nI_1 i) (nx 0 ?_))⟩))
    · rw [mq_in_0 (fun t => ((hP i hi).mp t).1 z)]; rfl
    · have hle : i &&& M ≤ i := Nat.and_le_left
      rw [mq_and, nI_eq (by omega) hM] at z2
      rw [mq_in_1 ((hP i hi).mpr ⟨z, z2⟩)]; rfl
    · rw [mq_in_0 (fun t => z2 ?_)]; rfl
      rw [mq_and, ((hP i hi).mp t).2]
section
variable {f2 : Int32} {N K : Nat} {c : Nat → Nat}
theorem mr_share {post : Int32 → St1 → Prop} (hN : N ≤ 9) (hK : K ≤ 4) (hp : ∀ l, l < K → mq_pl (a6 l) ∧ mq_pl (a7 l)) (hr : f2 = 0 ∨ (f2 = 1 ∧ mq_PR (mq_st a1 a2 a3 a5 a6 a7) N K a11 a12)) (hc : ∀ j, j < N → c j ≤ 4) (h4 : ∀ j, j < N → a4 j = nI (c j))
    (H : ∀ b8 b9 b10 b11 b12 b13 : Nat → Int32, mq_PR (mq_st a1 a2 a3 a5 a6 a7) N K b11 b12 → post (nI (mq_SH (mq_st a1 a2 a3 a5 a6 a7) c N K)) (nI N, nI K, 1, a1, a2, a3, a4, a5, a6, a7, b8, b9, b10, b11, b12, b13)) :
    wpX_share post (nI N, nI K, f2, a1, a2, a3, a4, a5, a6, a7, a8, a9, a10, a11, a12, a13) := by
  unfold wpX_share
  dsimp only
  refine mr_prep hN hK hp hr (fun b8 b9 b10 b11 b12 hq => ?_)
  refine mr_fold (M := 0) (P := fun s => mq_ys (mq_st a1 a2 a3 a5 a6 a7) N K 0 mq_fr s) hN hc h4 (by decide) (fun s hs => ?_) (fun b13 => H b8 b9 b10 b11 b12 b13 hq)
  rw [mq_PR_0 hq hs]
  exact ⟨fun h => ⟨fun z => z h, by simp⟩, fun h => Classical.byContradiction h.1⟩
theorem mr_noFact_t {post : Int32 → Prop} {f1 : Int32} {i : Nat} (hN : N ≤ 9) (hi : i < N) (H : post 0) : wpX_noFact post (nI N, f1, f2, a1, a2, a3, a4, a5, a6, a7, a8, a9, a10, a11, a12, a13) (nI i) := by
  unfold wpX_noFact
  exact pk_lt i 0 (fun z => absurd z (by omega)) (fun _ => pk_lt i N (fun _ => H) (fun z => absurd z (by omega)))
theorem mr_noFact_f {post : Int32 → Prop} {f1 : Int32} (hN : N ≤ 9) (H : post 1) : wpX_noFact post (nI N, f1, f2, a1, a2, a3, a4, a5, a6, a7, a8, a9, a10, a11, a12, a13) (nI N) := by
  unfold wpX_noFact
  exact pk_lt N 0 (fun z => absurd z (by omega)) (fun _ => pk_lt N N (fun z => absurd z (by omega)) (fun _ => H))
theorem mr_shareWith {post : Int32 → St1 → Prop} {i : Nat} (hN : N ≤ 9) (hK : K ≤ 4) (hp : ∀ l, l < K → mq_pl (a6 l) ∧ mq_pl (a7 l)) (hr : f2 = 0 ∨ (f2 = 1 ∧ mq_PR (mq_st a1 a2 a3 a5 a6 a7) N K a11 a12)) (hc : ∀ j, j < N → c j ≤ 4) (h4 : ∀ j, j < N → a4 j = nI (c j)) (hi : i < N)
    (H : ∀ b8 b9 b10 b11 b12 b13 : Nat → Int32, mq_PR (mq_st a1 a2 a3 a5 a6 a7) N K b11 b12 → post (nI (mq_SW (mq_st a1 a2 a3 a5 a6 a7) c N K i)) (nI N, nI K, 1, a1, a2, a3, a4, a5, a6, a7, b8, b9, b10, b11, b12, b13)) :
    wpX_shareWith post (nI N, nI K, f2, a1, a2, a3, a4, a5, a6, a7, a8, a9, a10, a11, a12, a13) (nI i) := by
  unfold wpX_shareWith
  dsimp only
  refine mr_noFact_t hN hi (br_t rfl (mr_prep hN hK hp hr (fun b8 b9 b10 b11 b12 hq => ?_)))
  dsimp only
  rw [mq_sh i (by omega)]
  have h512 := mq_pow hN
  have hi2 := mq_lt2 hi
  refine mr_fold (M := 2 ^ i) (P := fun s => mq_ys (mq_st a1 a2 a3 a5 a6 a7) N K 0 mq_fr s ∧ s.testBit i = true) hN hc h4 (by omega) (fun s hs => ?_) (fun b13 => H b8 b9 b10 b11 b12 b13 hq)
  rw [mq_PR_0 hq hs, mq_must]
  exact ⟨fun h => ⟨fun z => z h.1, h.2⟩, fun h => ⟨Classical.byContradiction h.1, h.2⟩⟩
theorem mr_shareWith_f {post : Int32 → St1 → Prop} {f1 : Int32} (hN : N ≤ 9) (H : post (-4) (nI N, f1, f2, a1, a2, a3, a4, a5, a6, a7, a8, a9, a10, a11, a12, a13)) :
    wpX_shareWith post (nI N, f1, f2, a1, a2, a3, a4, a5, a6, a7, a8, a9, a10, a11, a12, a13) (nI N) := by
  unfold wpX_shareWith
  dsimp only
  exact mr_noFact_f hN (br_f (by decide) H)
theorem mr_matters_f {post : Int32 → St1 → Prop} {f1 : Int32} (hN : N ≤ 9) (H : post 0 (nI N, f1, f2, a1, a2, a3, a4, a5, a6, a7, a8, a9, a10, a11, a12, a13)) :
    wpX_matters post (nI N, f1, f2, a1, a2, a3, a4, a5, a6, a7, a8, a9, a10, a11, a12, a13) (nI N) := by
  unfold wpX_matters
  dsimp only
  exact mr_noFact_f hN (br_f (by decide) H)
theorem mr_matters {post : Int32 → St1 → Prop} {i : Nat} (hN : N ≤ 9) (hK : K ≤ 4) (hp : ∀ l, l < K → mq_pl (a6 l) ∧ mq_pl (a7 l)) (hr : f2 = 0 ∨ (f2 = 1 ∧ mq_PR (mq_st a1 a2 a3 a5 a6 a7) N K a11 a12)) (hi : i < N)
    (H1 : ∀ b8 b9 b10 b11 b12 : Nat → Int32, mq_PR (mq_st a1 a2 a3 a5 a6 a7) N K b11 b12 → post 1 (nI N, nI K, 1, a1, a2, a3, a4, a5, a6, a7, b8, b9, b10, b11, b12, a13))
    (H0 : ∀ b8 b9 b10 b11 b12 : Nat → Int32, mq_PR (mq_st a1 a2 a3 a5 a6 a7) N K b11 b12 → (∀ s, s < 2 ^ N → (mq_ys (mq_st a1 a2 a3 a5 a6 a7) N K 0 mq_fr s ↔ mq_ys (mq_st a1 a2 a3 a5 a6 a7) N K 0 mq_fr (s ||| 2 ^ i))) → post 0 (nI N, nI K, 1, a1, a2, a3, a4, a5, a6, a7, b8, b9, b10, b11, b12, a13)) :
    wpX_matters post (nI N, nI K, f2, a1, a2, a3, a4, a5, a6, a7, a8, a9, a10, a11, a12, a13) (nI i) := by
  have h512 := mq_pow hN
  unfold wpX_matters
  dsimp only
  refine mr_noFact_t hN hi (br_t rfl (mr_prep hN hK hp hr (fun b8 b9 b10 b11 b12 hq => ?_)))
  dsimp only
  refine pk_loop (σ := Unit) (fun n s _ => wX_matters_16 post (nI i) (nI N) (nI K) 1 a1 a2 a3 a4 a5 a6 a7 b8 b9 b10 b11 b12 a13 n (nI s)) (fun s _ => ∀ t, t < s → (mq_ys (mq_st a1 a2 a3 a5 a6 a7) N K 0 mq_fr t ↔ mq_ys (mq_st a1 a2 a3 a5 a6 a7) N K 0 mq_fr (t ||| 2 ^ i))) (2 ^ N) 0 () (Nat.zero_le _) (fun t ht => absurd ht (by omega)) ?_ ?_
  · intro n _ h
    exact pk_le (2 ^ N) (2 ^ N) (fun _ => H0 _ _ _ _ _ hq h) (fun z => absurd z (by omega)) (mq_sh N (by omega))
  · intro n s _ hs h hw
    have h2 : s ||| 2 ^ i < 2 ^ N := Nat.or_lt_two_pow hs (mq_lt2 hi)
    refine pk_le (2 ^ N) s (fun z => absurd z (by omega)) (fun _ => ⟨pk_in s 512 (by omega), ?_⟩) (mq_sh N (by omega))
    rw [mq_sh i (by omega), mq_or, nI_clamp (show s < 2 ^ 31 by omega), nI_clamp (show s ||| 2 ^ i < 2 ^ 31 by omega)]
    refine ⟨pk_in (s ||| 2 ^ i) 512 (by omega), br_c (fun z => nm_r (nI_1 s) (hw () (fun t ht => ?_))) (fun z => H1 _ _ _ _ _ hq)⟩
    by_cases e : t = s
    · rw [e]; exact mq_PR_eq hq hs h2 z
    · exact h t (by omega)
theorem mr_ones {post : Int32 → Prop} {s : Nat} (hN : N ≤ 9) (hs : s < 2 ^ N) (H : ∀ r, r ≤ N → post (nI r)) : wpX_ones post () (nI s) := by
  have h512 := mq_pow hN
  unfold wpX_ones
  refine pk_loop (fun n i t => wX_ones_4 post (nI s) n t (nI i)) (fun i t => ∃ r, r ≤ i ∧ r ≤ N ∧ t = nI r) 9 0 0 (by omega) ⟨0, by omega, by omega, rfl⟩ ?_ ?_
  · rintro n t ⟨r, _, hr, rfl⟩
    exact pk_le 9 9 (fun _ => H r hr) (fun z => absurd z (by omega))
  · rintro n i t hi ⟨r, hr1, hr2, rfl⟩ hw
    refine pk_le 9 i (fun z => absurd z (by omega)) (fun _ => nm_e (nm_r (nI_1 i) (hw _ ?_)))
    rw [mq_bit (by omega) (by omega), nI_add]
    have hb : s / 2 ^ i % 2 < 2 := Nat.mod_lt _ (by omega)
    refine ⟨_, by omega, ?_, rfl⟩
    rcases Nat.lt_or_ge i N with z | z
    · omega
    · have hz : s / 2 ^ i = 0 := Nat.div_eq_of_lt (Nat.lt_of_lt_of_le hs (Nat.pow_le_pow_right (by omega) z))
      rw [hz]
      omega
theorem mr_fewest {post : Int32 → St1 → Prop} (hN : N ≤ 9) (hK : K ≤ 4) (hp : ∀ l, l < K → mq_pl (a6 l) ∧ mq_pl (a7 l)) (hr : f2 = 0 ∨ (f2 = 1 ∧ mq_PR (mq_st a1 a2 a3 a5 a6 a7) N K a11 a12))
    (H : ∀ (r : Int32) (b8 b9 b10 b11 b12 : Nat → Int32), mq_PR (mq_st a1 a2 a3 a5 a6 a7) N K b11 b12 → ((r = -4 ∧ ∀ s, s < 2 ^ N → ¬ mq_ys (mq_st a1 a2 a3 a5 a6 a7) N K 0 mq_fr s) ∨ (∃ k, k ≤ N ∧ r = nI k ∧ ¬ ∀ s, s < 2 ^ N → ¬ mq_ys (mq_st a1 a2 a3 a5 a6 a7) N K 0 mq_fr s)) → post r (nI N, nI K, 1, a1, a2, a3, a4, a5, a6, a7, b8, b9, b10, b11, b12, a13)) :
    wpX_fewest post (nI N, nI K, f2, a1, a2, a3, a4, a5, a6, a7, a8, a9, a10, a11, a12, a13) := by
  have h512 := mq_pow hN
  unfold wpX_fewest
  dsimp only
  refine mr_prep hN hK hp hr (fun b8 b9 b10 b11 b12 hq => ?_)
  dsimp only
  refine pk_loop (fun n s t => wX_fewest_9 post (nI N) (nI K) 1 a1 a2 a3 a4 a5 a6 a7 b8 b9 b10 b11 b12 a13 n t (nI s)) (fun s t => (t = -4 ∧ ∀ T, T < s → ¬ mq_mt (mq_st a1 a2 a3 a5 a6 a7) N K 0 mq_fr 0 T) ∨ (∃ k, k ≤ N ∧ t = nI k ∧ ∃ T, T < s ∧ mq_mt (mq_st a1 a2 a3 a5 a6 a7) N K 0 mq_fr 0 T)) (2 ^ N) 0 (-4) (Nat.zero_le _) (Or.inl ⟨rfl, fun t ht => absurd ht (by omega)⟩) ?_ ?_
  · intro n t h
    refine pk_le (2 ^ N) (2 ^ N) (fun _ => H _ _ _ _ _ _ hq ?_) (fun z => absurd z (by omega)) (mq_sh N (by omega))
    rcases h with ⟨h1, h2⟩ | ⟨k, h1, h2, T, h3, h4⟩
    · exact Or.inl ⟨h1, mq_any.mp h2⟩
    · exact Or.inr ⟨k, h1, h2, fun z => mq_any.mpr z T h3 h4⟩
  · intro n s t hs h hw
    refine pk_le (2 ^ N) s (fun z => absurd z (by omega)) (fun _ => ⟨pk_in s 512 (by omega), ?_⟩) (mq_sh N (by omega))
    rw [nI_clamp (show s < 2 ^ 31 by omega)]
    refine br_c (fun z => nm_r (nI_1 s) (hw _ ?_)) (fun z => mr_ones hN hs (fun r hr => ?_))
    · have hn : ¬ mq_mt (mq_st a1 a2 a3 a5 a6 a7) N K 0 mq_fr 0 s := fun q => (hq.1 s hs).mpr q z
      rcases h with ⟨h1, h2⟩ | ⟨k, h1, h2, T, h3, h4⟩
      · refine Or.inl ⟨h1, fun T hT => ?_⟩
        by_cases e : T = s
        · rw [e]; exact hn
        · exact h2 T (by omega)
      · exact Or.inr ⟨k, h1, h2, T, by omega, h4⟩
    · have hm := (hq.1 s hs).mp z
      rcases h with ⟨h1, h2⟩ | ⟨k, h1, h2, T, h3, h4⟩
      · rw [h1]
        exact br_t (by decide) (nm_r (nI_1 s) (hw _ (Or.inr ⟨r, hr, rfl, s, by omega, hm⟩)))
      · rw [h2]
        exact pk_lt k 0 (fun z => absurd z (by omega)) (fun _ => pk_le k r (fun _ => nm_r (nI_1 s) (hw _ (Or.inr ⟨k, h1, rfl, s, by omega, hm⟩))) (fun _ => nm_r (nI_1 s) (hw _ (Or.inr ⟨r, hr, rfl, s, by omega, hm⟩))))
theorem mq_min {P : Nat → Prop} {N : Nat} (h : ∀ s, s < 2 ^ N → P s → ∃ t, t < s ∧ P t) : ∀ s, s < 2 ^ N → ¬ P s := by
  intro s
  induction s using Nat.strongRecOn with
  | ind s ih =>
    intro hs hp
    obtain ⟨t, ht, q⟩ := h s hs hp
    exact ih t ht (by omega) q
theorem mr_reasons {post : Int32 → St1 → Prop} (hN : N ≤ 9) (hK : K ≤ 4) (hp : ∀ l, l < K → mq_pl (a6 l) ∧ mq_pl (a7 l)) (hr : f2 = 0 ∨ (f2 = 1 ∧ mq_PR (mq_st a1 a2 a3 a5 a6 a7) N K a11 a12))
    (H : ∀ (r : Int32) (b8 b9 b10 b11 b12 : Nat → Int32), mq_PR (mq_st a1 a2 a3 a5 a6 a7) N K b11 b12 → (r = 0 ↔ ∀ s, s < 2 ^ N → ¬ mq_ys (mq_st a1 a2 a3 a5 a6 a7) N K 0 mq_fr s) → post r (nI N, nI K, 1, a1, a2, a3, a4, a5, a6, a7, b8, b9, b10, b11, b12, a13)) :
    wpX_reasons post (nI N, nI K, f2, a1, a2, a3, a4, a5, a6, a7, a8, a9, a10, a11, a12, a13) := by
  have h512 := mq_pow hN
  unfold wpX_reasons
  dsimp only
  refine mr_prep hN hK hp hr (fun b8 b9 b10 b11 b12 hq => ?_)
  dsimp only
  refine pk_loop (fun n s t => wX_reasons_8 post (nI N) (nI K) 1 a1 a2 a3 a4 a5 a6 a7 b8 b9 b10 b11 b12 a13 n t (nI s)) (fun s t => ∃ k, k ≤ s ∧ t = nI k ∧ (k = 0 → ∀ q, q < s → ¬ b12 q = 0 → ∃ f, f < N ∧ q.testBit f = true ∧ ¬ b12 (q ^^^ 2 ^ f) = 0) ∧ (0 < k → ∃ q, q < s ∧ ¬ b12 q = 0)) (2 ^ N) 0 0 (Nat.zero_le _) ⟨0, by omega, rfl, fun _ q hq => absurd hq (by omega), fun z => absurd z (by omega)⟩ ?_ ?_
  · rintro n t ⟨k, h1, rfl, h3, h4⟩
    refine pk_le (2 ^ N) (2 ^ N) (fun _ => H _ _ _ _ _ _ hq ?_) (fun z => absurd z (by omega)) (mq_sh N (by omega))
    rw [← nI_0, nI_eq (by omega) (by omega)]
    constructor
    · intro e
      refine mq_min (fun s hs hy => ?_)
      obtain ⟨f, f1, f2, f3⟩ := h3 e s hs (fun z => (mq_PR_0 hq hs).mp z hy)
      have hlt := (mq_clr s (by omega) f (by omega) f2).2
      exact ⟨s ^^^ 2 ^ f, hlt, Classical.byContradiction (fun z => f3 ((mq_PR_0 hq (by omega)).mpr z))⟩
    · intro e
      rcases Nat.eq_zero_or_pos k with z | z
      · exact z
      · obtain ⟨q, q1, q2⟩ := h4 z
        exact absurd ((mq_PR_0 hq q1).mpr (e q q1)) q2
  · rintro n s t hs ⟨k, h1, rfl, h3, h4⟩ hw
    refine pk_le (2 ^ N) s (fun z => absurd z (by omega)) (fun _ => ⟨pk_in s 512 (by omega), ?_⟩) (mq_sh N (by omega))
    rw [nI_clamp (show s < 2 ^ 31 by omega)]
    refine br_c (fun z => nm_r (nI_1 s) (hw _ ⟨k, by omega, rfl, fun e q q1 q2 => ?_, fun e => ?_⟩)) (fun z => mr_below hN hs (fun h => br_f (by decide) (nm_r (nI_1 s) (hw _ ⟨k, by omega, rfl, fun e q q1 q2 => ?_, fun e => ?_⟩))) (fun h => br_t rfl (nm_r (nI_1 k) (nm_r (nI_1 s) (hw _ ⟨k + 1, by omega, rfl, fun e => absurd e (by omega), fun _ => ⟨s, by omega, z⟩⟩)))))
    · by_cases eq : q = s
      · rw [eq] at q2; exact absurd z q2
      · exact h3 e q (by omega) q2
    · obtain ⟨q, q1, q2⟩ := h4 e
      exact ⟨q, by omega, q2⟩
    · by_cases eq : q = s
      · rw [eq]; exact h
      · exact h3 e q (by omega) q2
    · obtain ⟨q, q1, q2⟩ := h4 e
      exact ⟨q, by omega, q2⟩
end
end
end
section
/-! the walk: the law's own small methods, fact, condition, all, facts -/
section
variable {a1 a2 a3 a4 a5 a6 a7 a8 a9 a10 a11 a12 a13 : Nat → Int32}
def mq_cl (L : Nat) (xs : Nat → Int32) (k : Nat) : Int32 := if k < L then xs k else 0
theorem mr_cell {post : Int32 → Prop} {L : Nat} {xs : Nat → Int32} (hL : L ≤ 260) (k : Nat) {x : Int32} (hx : x = nI k) (hk : k < 2 ^ 31) (H : post (mq_cl L xs k)) : wpL_cell post L xs () x := by
  subst hx
  unfold wpL_cell
  unfold mq_cl at H
  refine pk_le L k (fun z => ?_) (fun z => ⟨pk_in k L z, ?_⟩)
  · rw [if_neg (by omega)] at H; exact H
  · rw [if_pos z] at H; rw [nI_clamp hk]; exact H
def mq_nb (v : Int32) : Nat := 1 + (v >>> ((17 : Int32) &&& 31)).toBitVec.toNat % 2 ^ 2
theorem mq_nb_1 (v : Int32) : 1 ≤ mq_nb v := by unfold mq_nb; omega
theorem mq_nb_4 (v : Int32) : mq_nb v ≤ 4 := by unfold mq_nb; omega
theorem mr_number {post : Int32 → Prop} (v : Int32) (H : post (nI (mq_nb v))) : wpL_number post () v := by
  unfold wpL_number
  have e : 1 + ((v >>> ((17 : Int32) &&& 31)) &&& 3) = nI (mq_nb v) := by
    rw [pk_and _ 2 rfl]
    exact nI_add 1 _
  rw [e]
  exact H
theorem mr_end {post : Int32 → Prop} (v : Int32) (H : ∀ p, mq_pl p → post p) : wpL_end post () v := by
  unfold wpL_end
  obtain ⟨j, hj, e⟩ := pk_andE v (m := 3) 2 rfl
  have e3 : (v &&& 3) - (v &&& 3) / 3 * 3 = nI (j % 3) := by rw [e]; exact pk_rem (d := 3) (by omega) (by omega) (by omega)
  rw [e3]
  have hm : j % 3 < 3 := Nat.mod_lt _ (by omega)
  exact br_c (fun _ => ⟨by decide, H _ ⟨8 + j % 3, nI_add 8 _, by omega⟩⟩) (fun _ => ⟨by decide, H _ ⟨j % 3, rfl, by omega⟩⟩)
theorem mr_bad {post : Int32 → Prop} {p : Int32} (hp : mq_pl p) (H : post 0) : wpX_badPlace post () p := by
  obtain ⟨k, rfl, hk⟩ := hp
  unfold wpX_badPlace
  have h15 : wX_badPlace_15 post (nI k) := pk_lt k 14 (fun _ => H) (fun z => absurd z (by omega))
  exact pk_lt k 0 (fun z => absurd z (by omega)) (fun _ => pk_le k 2 (fun _ => h15) (fun _ => pk_lt k 8 (fun z => absurd z (by omega)) (fun _ => h15)))
theorem mr_cond {post : Int32 → St1 → Prop} {f0 f2 v p q : Int32} {K : Nat} (hK : K < 4) (hp : mq_pl p) (hq : mq_pl q)
    (H : post (nI (K + 1)) (f0, nI (K + 1), 0, a1, a2, a3, a4, upd a5 K (v &&& 1), upd a6 K p, upd a7 K q, a8, a9, a10, a11, a12, a13)) :
    wpX_condition post (f0, nI K, f2, a1, a2, a3, a4, a5, a6, a7, a8, a9, a10, a11, a12, a13) v p q := by
  unfold wpX_condition
  dsimp only
  refine mr_bad hp (br_t rfl (mr_bad hq (br_t rfl (pk_lt K 4 (fun _ => ?_) (fun z => absurd z (by omega))))))
  rw [nI_clamp (show K < 2 ^ 31 by omega)]
  exact ⟨pk_in K 4 hK, nm_e ⟨pk_in K 4 hK, nm_e ⟨pk_in K 4 hK, nm_e (nm_r (nI_1 K) H)⟩⟩⟩
theorem mq_edge : ∀ A, A < 3 → ∀ B, B < 3 → ∀ C, C < 2 → ¬ (6 : Int32) ≤ ((nI A ||| (nI B <<< ((3 : Int32) &&& 31))) ||| (nI C <<< ((6 : Int32) &&& 31))) &&& 7 ∧ ((((nI A ||| (nI B <<< ((3 : Int32) &&& 31))) ||| (nI C <<< ((6 : Int32) &&& 31))) >>> ((3 : Int32) &&& 31)) &&& 7) < 6 := by decide +kernel
theorem mr_edge {post : Int32 → Prop} (v : Int32) (H : ∀ e : Int32, ¬ 6 ≤ e &&& 7 → ((e >>> ((3 : Int32) &&& 31)) &&& 7) < 6 → post e) : wpL_edge post () v := by
  unfold wpL_edge
  obtain ⟨j, hj, e⟩ := pk_andE v (m := 255) 8 rfl
  obtain ⟨k, hk, e2⟩ := pk_andE (v >>> ((8 : Int32) &&& 31)) (m := 255) 8 rfl
  obtain ⟨m, hm, e3⟩ := pk_andE (v >>> ((16 : Int32) &&& 31)) (m := 1) 1 rfl
  have r1 : (v &&& 255) - (v &&& 255) / 3 * 3 = nI (j % 3) := by rw [e]; exact pk_rem (d := 3) (by omega) (by omega) (by omega)
  have r2 : ((v >>> ((8 : Int32) &&& 31)) &&& 255) - ((v >>> ((8 : Int32) &&& 31)) &&& 255) / 3 * 3 = nI (k % 3) := by rw [e2]; exact pk_rem (d := 3) (by omega) (by omega) (by omega)
  rw [r1, r2, e3]
  have q := mq_edge (j % 3) (Nat.mod_lt _ (by omega)) (k % 3) (Nat.mod_lt _ (by omega)) m (by omega)
  exact ⟨by decide, by decide, H _ q.1 q.2⟩
theorem mr_fact {post : Int32 → St1 → Prop} {f1 f2 e x : Int32} {N : Nat} (q : Nat) (hx : x = nI q) (hN : N < 9) (h1 : ¬ 6 ≤ e &&& 7) (h2 : ((e >>> ((3 : Int32) &&& 31)) &&& 7) < 6) (hq : 1 ≤ q) (hq4 : q ≤ 4)
    (H : post (nI N) (nI (N + 1), f1, 0, upd a1 N (e &&& 7), upd a2 N ((e >>> ((3 : Int32) &&& 31)) &&& 7), upd a3 N ((e >>> ((6 : Int32) &&& 31)) &&& 1), upd a4 N (nI q), a5, a6, a7, a8, a9, a10, a11, a12, a13)) :
    wpX_fact post (nI N, f1, f2, a1, a2, a3, a4, a5, a6, a7, a8, a9, a10, a11, a12, a13) e x := by
  subst hx
  unfold wpX_fact
  dsimp only
  refine nm_e (nm_e (br_f h1 (br_t h2 (pk_lt q 1 (fun z => absurd z (by omega)) (fun _ => pk_le q 4 (fun _ => pk_lt N 9 (fun _ => ?_) (fun z => absurd z (by omega))) (fun z => absurd z (by omega)))))))
  rw [nI_clamp (show N < 2 ^ 31 by omega)]
  refine ⟨pk_in N 9 hN, nm_e ⟨pk_in N 9 hN, nm_e ⟨pk_in N 9 hN, nm_e ⟨pk_in N 9 hN, nm_e (nm_r (nI_1 N) ?_)⟩⟩⟩⟩
  rw [nI_pred]
  exact H
theorem mr_all {post : Int32 → Prop} {f1 f2 : Int32} {N : Nat} (hN : N ≤ 9) (H : post (nI (4 ^ N))) : wpX_all post (nI N, f1, f2, a1, a2, a3, a4, a5, a6, a7, a8, a9, a10, a11, a12, a13) := by
  unfold wpX_all
  dsimp only
  have e : (2 : Int32) * nI N = nI (2 * N) := pk_mul 2 N
  rw [e, mq_sh (2 * N) (by omega), Nat.pow_mul]
  exact H
theorem mr_facts {post : Int32 → St1 → Prop} {f2 : Int32} {L N K : Nat} {xs : Nat → Int32} {c : Nat → Nat} (hL : L ≤ 260) (hN : N ≤ 8) (hK : K ≤ 4) (hp : ∀ l, l < K → mq_pl (a6 l) ∧ mq_pl (a7 l)) (hr : f2 = 0 ∨ (f2 = 1 ∧ mq_PR (mq_st a1 a2 a3 a5 a6 a7) N K a11 a12)) (hc : ∀ j, j < N → c j ≤ 4) (h4 : ∀ j, j < N → a4 j = nI (c j)) (hb : ∀ j, j < N → c j = mq_nb (mq_cl L xs (2 + j)))
    (H : ∀ (g2 : Int32) (b8 b9 b10 b11 b12 b13 : Nat → Int32), post 1 (nI N, nI K, g2, a1, a2, a3, a4, a5, a6, a7, b8, b9, b10, b11, b12, b13)) :
    wpL_facts post L xs (nI N, nI K, f2, a1, a2, a3, a4, a5, a6, a7, a8, a9, a10, a11, a12, a13) (nI N) (nI (mq_SH (mq_st a1 a2 a3 a5 a6 a7) c N K)) := by
  have hS : mq_SH (mq_st a1 a2 a3 a5 a6 a7) c N K ≤ 4 ^ N := mq_SH_le hc
  have h48 : 4 ^ N ≤ 4 ^ 8 := Nat.pow_le_pow_right (by omega) hN
  have hM : mq_SH (mq_st a1 a2 a3 a5 a6 a7) c N K < 2 ^ 31 := by omega
  unfold wpL_facts
  dsimp only
  refine pk_loop (fun n i (s : Int32 × (Nat → Int32) × (Nat → Int32) × (Nat → Int32) × (Nat → Int32) × (Nat → Int32) × (Nat → Int32)) => wL_facts_3 post L xs (nI N) (nI (mq_SH (mq_st a1 a2 a3 a5 a6 a7) c N K)) n (nI i) (nI N) (nI K) s.1 a1 a2 a3 a4 a5 a6 a7 s.2.1 s.2.2.1 s.2.2.2.1 s.2.2.2.2.1 s.2.2.2.2.2.1 s.2.2.2.2.2.2)
    (fun i s => s.1 = 0 ∨ (s.1 = 1 ∧ mq_PR (mq_st a1 a2 a3 a5 a6 a7) N K s.2.2.2.2.1 s.2.2.2.2.2.1)) N 0 (f2, a8, a9, a10, a11, a12, a13) (by omega) hr ?_ ?_
  · rintro n ⟨g2, b8, b9, b10, b11, b12, b13⟩ hs
    refine pk_le N N (fun _ => mr_shareWith_f (by omega) (br_t rfl (mr_matters_f (by omega) (br_t rfl (H _ _ _ _ _ _ _))))) (fun z => absurd z (by omega))
  · rintro n i ⟨g2, b8, b9, b10, b11, b12, b13⟩ hi hs hw
    refine pk_le N i (fun z => absurd z (by omega)) (fun _ => mr_shareWith (by omega) hK hp hs hc h4 hi (fun e8 e9 e10 e11 e12 e13 hq => ?_))
    have hle : mq_SW (mq_st a1 a2 a3 a5 a6 a7) c N K i ≤ mq_SH (mq_st a1 a2 a3 a5 a6 a7) c N K := mq_SW_le
    refine mr_cell hL (2 + i) (nI_add 2 i) (by omega) (pk_lt (mq_SW (mq_st a1 a2 a3 a5 a6 a7) c N K i) 0 (fun z => absurd z (by omega)) (fun _ => pk_le (mq_SW (mq_st a1 a2 a3 a5 a6 a7) c N K i) (mq_SH (mq_st a1 a2 a3 a5 a6 a7) c N K) (fun _ => ?_) (fun z => absurd z (by omega))))
    refine mr_matters (by omega) hK hp (Or.inr ⟨rfl, hq⟩) hi (fun g8 g9 g10 g11 g12 hq2 => ?_) (fun g8 g9 g10 g11 g12 hq2 hm => ?_)
    · exact br_f (by decide) (nm_r (nI_1 i) (hw (1, g8, g9, g10, g11, g12, e13) (Or.inr ⟨rfl, hq2⟩)))
    · refine br_t rfl (mr_number _ (br_t ?_ (nm_r (nI_1 i) (hw (1, g8, g9, g10, g11, g12, e13) (Or.inr ⟨rfl, hq2⟩)))))
      have e4 : (4 : Int32) = nI 4 := rfl
      rw [e4, pk_mul, pk_mul, mq_SH_ind hi hc hm, hb i hi]
end
end
section
/-! the law: its checks, its two loops -/
section
variable {a1 a2 a3 a4 a5 a6 a7 a8 a9 a10 a11 a12 a13 d1 d2 d3 d4 d5 d6 d7 d8 d9 d10 d11 d12 d13 : Nat → Int32} {post : Int32 → Prop} {L kc ks : Nat} {xs : Nat → Int32} {J : Int32 → Int32 → Int32 → Int32 → Int32 → (Nat → Int32) → (Nat → Int32) → (Nat → Int32) → (Nat → Int32) → (Nat → Int32) → (Nat → Int32) → (Nat → Int32) → (Nat → Int32) → (Nat → Int32) → (Nat → Int32) → (Nat → Int32) → (Nat → Int32) → (Nat → Int32) → Int32 → Int32 → Int32 → (Nat → Int32) → (Nat → Int32) → (Nat → Int32) → (Nat → Int32) → (Nat → Int32) → (Nat → Int32) → (Nat → Int32) → (Nat → Int32) → (Nat → Int32) → (Nat → Int32) → (Nat → Int32) → (Nat → Int32) → (Nat → Int32) → Prop} {f0 f1 f2 g0 g1 g2 x3 x4 x5 x7 x8 x9 x10 x11 z0 z1 : Int32}
theorem mr_208 (hz : z1 = z0) (h : x10 = 0 ∨ x10 = x5) (H : wL_law_225 post L xs J x3 x4 x5 x7 x8 x9 kc ks f0 f1 f2 a1 a2 a3 a4 a5 a6 a7 a8 a9 a10 a11 a12 a13 g0 g1 g2 d1 d2 d3 d4 d5 d6 d7 d8 d9 d10 d11 d12 d13) : wL_law_208 post L xs J x3 x4 x5 x7 x8 x9 x10 z0 z1 kc ks f0 f1 f2 a1 a2 a3 a4 a5 a6 a7 a8 a9 a10 a11 a12 a13 g0 g1 g2 d1 d2 d3 d4 d5 d6 d7 d8 d9 d10 d11 d12 d13 := by
  unfold wL_law_208
  exact br_t hz (br_c (fun _ => H) (fun n => br_t (h.resolve_left n) H))
theorem mr_196 (hz : (x10 = x5 → z0 = 1) ∧ (¬ x10 = x5 → z0 = 0)) (h : x10 = 0 ∨ x10 = x5) (H : wL_law_225 post L xs J x3 x4 x5 x7 x8 x9 kc ks f0 f1 f2 a1 a2 a3 a4 a5 a6 a7 a8 a9 a10 a11 a12 a13 g0 g1 g2 d1 d2 d3 d4 d5 d6 d7 d8 d9 d10 d11 d12 d13) : wL_law_196 post L xs J x3 x4 x5 x7 x8 x9 x10 z0 kc ks f0 f1 f2 a1 a2 a3 a4 a5 a6 a7 a8 a9 a10 a11 a12 a13 g0 g1 g2 d1 d2 d3 d4 d5 d6 d7 d8 d9 d10 d11 d12 d13 := by
  unfold wL_law_196
  exact br_c (fun e => mr_208 (hz.1 e) h H) (fun e => mr_208 (hz.2 e) h H)
theorem mr_270 (hz : (x9 = 0 → z0 = 1) ∧ (¬ x9 = 0 → z0 = 0)) (H : ∀ z : Int32, wL_law_280 post L xs J x3 x4 x5 x7 x8 x9 x11 z z kc ks f0 f1 f2 a1 a2 a3 a4 a5 a6 a7 a8 a9 a10 a11 a12 a13 g0 g1 g2 d1 d2 d3 d4 d5 d6 d7 d8 d9 d10 d11 d12 d13) : wL_law_270 post L xs J x3 x4 x5 x7 x8 x9 x11 z0 kc ks f0 f1 f2 a1 a2 a3 a4 a5 a6 a7 a8 a9 a10 a11 a12 a13 g0 g1 g2 d1 d2 d3 d4 d5 d6 d7 d8 d9 d10 d11 d12 d13 := by
  unfold wL_law_270
  refine br_c (fun e => ?_) (fun e => ?_)
  · rw [hz.1 e]; exact H 1
  · rw [hz.2 e]; exact H 0
theorem mr_255 (hz : z1 = z0) (h : x11 = -4 ↔ x9 = 0) (H : ∀ z : Int32, wL_law_280 post L xs J x3 x4 x5 x7 x8 x9 x11 z z kc ks f0 f1 f2 a1 a2 a3 a4 a5 a6 a7 a8 a9 a10 a11 a12 a13 g0 g1 g2 d1 d2 d3 d4 d5 d6 d7 d8 d9 d10 d11 d12 d13) : wL_law_255 post L xs J x3 x4 x5 x7 x8 x9 x11 z0 z1 kc ks f0 f1 f2 a1 a2 a3 a4 a5 a6 a7 a8 a9 a10 a11 a12 a13 g0 g1 g2 d1 d2 d3 d4 d5 d6 d7 d8 d9 d10 d11 d12 d13 := by
  unfold wL_law_255
  exact br_t hz (br_c (fun e => mr_270 ⟨fun _ => rfl, fun n => absurd (h.mp e) n⟩ H) (fun e => mr_270 ⟨fun n => absurd (h.mpr n) e, fun _ => rfl⟩ H))
theorem mr_243 (hz : (x11 = -4 → z0 = 1) ∧ (¬ x11 = -4 → z0 = 0)) (h : x11 = -4 ↔ x9 = 0) (H : ∀ z : Int32, wL_law_280 post L xs J x3 x4 x5 x7 x8 x9 x11 z z kc ks f0 f1 f2 a1 a2 a3 a4 a5 a6 a7 a8 a9 a10 a11 a12 a13 g0 g1 g2 d1 d2 d3 d4 d5 d6 d7 d8 d9 d10 d11 d12 d13) : wL_law_243 post L xs J x3 x4 x5 x7 x8 x9 x11 z0 kc ks f0 f1 f2 a1 a2 a3 a4 a5 a6 a7 a8 a9 a10 a11 a12 a13 g0 g1 g2 d1 d2 d3 d4 d5 d6 d7 d8 d9 d10 d11 d12 d13 := by
  unfold wL_law_243
  exact br_c (fun e => mr_255 (hz.1 e) h H) (fun e => mr_255 (hz.2 e) h H)
theorem mr_280 {N K : Nat} {c : Nat → Nat} (hL : L ≤ 260) (hN : N ≤ 8) (hK : K < 4) (hp : ∀ l, l < K → mq_pl (a6 l) ∧ mq_pl (a7 l)) (hr : f2 = 0 ∨ (f2 = 1 ∧ mq_PR (mq_st a1 a2 a3 a5 a6 a7) N K a11 a12)) (hc : ∀ j, j < N → c j ≤ 4) (h4 : ∀ j, j < N → a4 j = nI (c j)) (hb : ∀ j, j < N → c j = mq_nb (mq_cl L xs (2 + j))) (hx : x11 ≤ nI N)
    (HJ : ∀ (v p q : Int32) (b8 b9 b10 b11 b12 b13 : Nat → Int32), mq_pl p → mq_pl q → J (nI (mq_SH (mq_st a1 a2 a3 a5 a6 a7) c N K)) (nI (K + 1)) (nI N) (nI (K + 1)) 0 a1 a2 a3 a4 (upd a5 K v) (upd a6 K p) (upd a7 K q) b8 b9 b10 b11 b12 b13 g0 (nI (K + 1)) 0 d1 d2 d3 d4 (upd d5 K v) (upd d6 K p) (upd d7 K q) d8 d9 d10 d11 d12 d13) (z : Int32) :
    wL_law_280 post L xs J (nI N) x4 x5 x7 (nI K) (nI (mq_SH (mq_st a1 a2 a3 a5 a6 a7) c N K)) x11 z z kc ks (nI N) (nI K) f2 a1 a2 a3 a4 a5 a6 a7 a8 a9 a10 a11 a12 a13 g0 (nI K) g2 d1 d2 d3 d4 d5 d6 d7 d8 d9 d10 d11 d12 d13 := by
  unfold wL_law_280
  refine br_t rfl (br_t hx (mr_facts hL hN (by omega) hp hr hc h4 hb (fun e2 e8 e9 e10 e11 e12 e13 => br_f (by decide) ?_)))
  have ek : 2 + nI N + nI K = nI (2 + N + K) := by
    rw [← nI_add, ← nI_add]
    rfl
  refine mr_cell hL (2 + N + K) ek (by omega) (mr_end _ (fun p hpp => mr_end _ (fun q hqq => ?_)))
  refine mr_cond hK hpp hqq (br_t (nI_1 K).symm (mr_cond hK hpp hqq (br_t (nI_1 K).symm (nm_r (nI_1 K) ?_))))
  exact HJ _ p q e8 e9 e10 e11 e12 e13 hpp hqq
theorem mr_225 {N K : Nat} {c : Nat → Nat} (hL : L ≤ 260) (hN : N ≤ 8) (hK : K < 4) (hp : ∀ l, l < K → mq_pl (a6 l) ∧ mq_pl (a7 l)) (hr : f2 = 0 ∨ (f2 = 1 ∧ mq_PR (mq_st a1 a2 a3 a5 a6 a7) N K a11 a12)) (hc : ∀ j, j < N → c j ≤ 4) (h4 : ∀ j, j < N → a4 j = nI (c j)) (hb : ∀ j, j < N → c j = mq_nb (mq_cl L xs (2 + j))) (hc1 : ∀ j, j < N → 1 ≤ c j)
    (HJ : ∀ (v p q : Int32) (b8 b9 b10 b11 b12 b13 : Nat → Int32), mq_pl p → mq_pl q → J (nI (mq_SH (mq_st a1 a2 a3 a5 a6 a7) c N K)) (nI (K + 1)) (nI N) (nI (K + 1)) 0 a1 a2 a3 a4 (upd a5 K v) (upd a6 K p) (upd a7 K q) b8 b9 b10 b11 b12 b13 g0 (nI (K + 1)) 0 d1 d2 d3 d4 (upd d5 K v) (upd d6 K p) (upd d7 K q) d8 d9 d10 d11 d12 d13) :
    wL_law_225 post L xs J (nI N) x4 x5 x7 (nI K) (nI (mq_SH (mq_st a1 a2 a3 a5 a6 a7) c N K)) kc ks (nI N) (nI K) f2 a1 a2 a3 a4 a5 a6 a7 a8 a9 a10 a11 a12 a13 g0 (nI K) g2 d1 d2 d3 d4 d5 d6 d7 d8 d9 d10 d11 d12 d13 := by
  have hS : mq_SH (mq_st a1 a2 a3 a5 a6 a7) c N K ≤ 4 ^ N := mq_SH_le hc
  have h48 : 4 ^ N ≤ 4 ^ 8 := Nat.pow_le_pow_right (by omega) hN
  have h0 : nI (mq_SH (mq_st a1 a2 a3 a5 a6 a7) c N K) = 0 ↔ ∀ s, s < 2 ^ N → ¬ mq_ys (mq_st a1 a2 a3 a5 a6 a7) N K 0 mq_fr s := by
    rw [← nI_0, nI_eq (by omega) (by omega)]
    exact mq_SH_0 hc1
  unfold wL_law_225
  refine mr_fewest (by omega) (by omega) hp hr (fun r e8 e9 e10 e11 e12 hq hf => ?_)
  refine mr_reasons (by omega) (by omega) hp (Or.inr ⟨rfl, hq⟩) (fun t g8 g9 g10 g11 g12 hq2 ht => ?_)
  have hle : r ≤ nI N := by
    rcases hf with ⟨e, _⟩ | ⟨k, hk, e, _⟩
    · rw [e]
      exact (by decide : ∀ n, n < 9 → (-4 : Int32) ≤ nI n) N (by omega)
    · rw [e]; exact nI_le hk (by omega)
  have h4' : r = -4 ↔ ∀ s, s < 2 ^ N → ¬ mq_ys (mq_st a1 a2 a3 a5 a6 a7) N K 0 mq_fr s := by
    rcases hf with ⟨e, h⟩ | ⟨k, hk, e, h⟩
    · exact ⟨fun _ => h, fun _ => e⟩
    · refine ⟨fun z => ?_, fun z => absurd z h⟩
      rw [e] at z
      exact absurd z ((by decide : ∀ n, n < 9 → ¬ nI n = -4) k (by omega))
  have key := mr_280 (post := post) (J := J) (kc := kc) (ks := ks) (x4 := x4) (x5 := x5) (x7 := x7) (a8 := g8) (a9 := g9) (a10 := g10) (a13 := a13) (d8 := d8) (d9 := d9) (d10 := d10) (d11 := d11) (d12 := d12) (d13 := d13) (g2 := g2) hL hN hK hp (Or.inr ⟨rfl, hq2⟩) hc h4 hb hle HJ
  have hrr := h4'.trans h0.symm
  exact br_c (fun e => mr_243 ⟨fun _ => rfl, fun n => absurd (h4'.mpr (ht.mp e)) n⟩ hrr key) (fun e => mr_243 ⟨fun n => absurd (ht.mpr (h4'.mp n)) e, fun _ => rfl⟩ hrr key)
end
section
variable {a1 a2 a3 a4 a5 a6 a7 a8 a9 a10 a11 a12 a13 d1 d2 d3 d4 d5 d6 d7 d8 d9 d10 d11 d12 d13 : Nat → Int32} {post : Int32 → Prop} {L kc ks : Nat} {xs : Nat → Int32}
/-- the two objects: y holds x's facts of chance 4 -/
def mq_J (n m : Nat) (c : Nat → Nat) (a1 a2 a3 a4 d1 d2 d3 d4 : Nat → Int32) : Prop :=
  m ≤ n ∧ (∀ j, j < n → a4 j = nI (c j)) ∧ ∃ g : Nat → Nat, (∀ j, j < m → g j < n ∧ c (g j) = 4 ∧ d1 j = a1 (g j) ∧ d2 j = a2 (g j) ∧ d3 j = a3 (g j) ∧ d4 j = nI 4) ∧ (∀ f, f < n → c f = 4 → ∃ j, j < m ∧ g j = f)
theorem mq_J_sh {N m K : Nat} {c : Nat → Nat} (hc : ∀ j, j < N → c j ≤ 4) (hJ : mq_J N m c a1 a2 a3 a4 d1 d2 d3 d4) : (mq_SH (mq_st a1 a2 a3 a5 a6 a7) c N K = 4 ^ N ↔ mq_SH (mq_st d1 d2 d3 a5 a6 a7) (fun _ => 4) m K = 4 ^ m) ∧ (mq_SH (mq_st d1 d2 d3 a5 a6 a7) (fun _ => 4) m K = 0 ∨ mq_SH (mq_st d1 d2 d3 a5 a6 a7) (fun _ => 4) m K = 4 ^ m) := by
  obtain ⟨_, _, g, h1, h2⟩ := hJ
  have iso := mq_ys_iso (st := (mq_st a1 a2 a3 a5 a6 a7)) (st' := (mq_st d1 d2 d3 a5 a6 a7)) (N := N) (m := m) (S := mq_sm c N) (S' := 2 ^ m - 1) (g := g) (fun j hj => ⟨(h1 j hj).1, (mq_sm_bit c N _).mpr ⟨(h1 j hj).1, (h1 j hj).2.1⟩⟩) (fun f hf hb => h2 f hf ((mq_sm_bit c N f).mp hb).2) (fun j hj => by rw [Nat.testBit_two_pow_sub_one]; exact decide_eq_true hj) (fun E l j hj => by
    obtain ⟨_, _, q1, q2, q3, _⟩ := h1 j hj
    unfold mq_st
    rw [q1, q2, q3]) K 0 mq_fr
  have hy := mq_SH_y (st := (mq_st d1 d2 d3 a5 a6 a7)) (c := fun _ => 4) (N := m) (K := K) (fun _ _ => rfl)
  have hpos : 0 < 4 ^ m := Nat.pow_pos (by omega)
  rw [mq_SH_all hc, ← iso, hy]
  by_cases h : mq_ys (mq_st d1 d2 d3 a5 a6 a7) m K 0 mq_fr (2 ^ m - 1)
  · rw [mq_in_1 h, Nat.one_mul]
    exact ⟨⟨fun _ => rfl, fun _ => h⟩, Or.inr rfl⟩
  · rw [mq_in_0 h, Nat.zero_mul]
    exact ⟨⟨fun z => absurd z h, fun z => absurd z (by omega)⟩, Or.inl rfl⟩
theorem mr_loop2 {N m cc : Nat} {c : Nat → Nat} (hL : L ≤ 260) (hN : N ≤ 8) (hcc : cc < 4) (hc : ∀ j, j < N → c j ≤ 4) (hc1 : ∀ j, j < N → 1 ≤ c j) (hb : ∀ j, j < N → c j = mq_nb (mq_cl L xs (2 + j))) (hJ : mq_J N m c a1 a2 a3 a4 d1 d2 d3 d4) (hpost : post 1) :
    ∃ n, wL_law_133 post L xs (nI N) (nI (4 ^ N)) (nI (4 ^ m)) (nI cc) kc ks n (nI (4 ^ N)) 0 (nI N) 0 0 a1 a2 a3 a4 a5 a6 a7 a8 a9 a10 a11 a12 a13 (nI m) 0 0 d1 d2 d3 d4 a5 a6 a7 d8 d9 d10 d11 d12 d13 := by
  have h48 : 4 ^ N ≤ 4 ^ 8 := Nat.pow_le_pow_right (by omega) hN
  have hm : m ≤ N := hJ.1
  have h48m : 4 ^ m ≤ 4 ^ 8 := Nat.pow_le_pow_right (by omega) (by omega)
  have h4 := hJ.2.1
  have hd4 : ∀ j, j < m → d4 j = nI ((fun _ => 4 : Nat → Nat) j) := by
    obtain ⟨_, _, g, q, _⟩ := hJ
    exact fun j hj => (q j hj).2.2.2.2.2
  refine pk_loop (fun n i (s : Nat × (Nat → Int32) × (Nat → Int32) × (Nat → Int32) × (Nat → Int32) × (Nat → Int32) × (Nat → Int32) × (Nat → Int32) × (Nat → Int32) × (Nat → Int32) × (Nat → Int32) × (Nat → Int32) × (Nat → Int32) × (Nat → Int32) × (Nat → Int32) × (Nat → Int32)) => wL_law_133 post L xs (nI N) (nI (4 ^ N)) (nI (4 ^ m)) (nI cc) kc ks n (nI s.1) (nI i) (nI N) (nI i) 0 a1 a2 a3 a4 s.2.1 s.2.2.1 s.2.2.2.1 s.2.2.2.2.1 s.2.2.2.2.2.1 s.2.2.2.2.2.2.1 s.2.2.2.2.2.2.2.1 s.2.2.2.2.2.2.2.2.1 s.2.2.2.2.2.2.2.2.2.1 (nI m) (nI i) 0 d1 d2 d3 d4 s.2.1 s.2.2.1 s.2.2.2.1 s.2.2.2.2.2.2.2.2.2.2.1 s.2.2.2.2.2.2.2.2.2.2.2.1 s.2.2.2.2.2.2.2.2.2.2.2.2.1 s.2.2.2.2.2.2.2.2.2.2.2.2.2.1 s.2.2.2.2.2.2.2.2.2.2.2.2.2.2.1 s.2.2.2.2.2.2.2.2.2.2.2.2.2.2.2)
    (fun i s => (∀ l, l < i → mq_pl (s.2.2.1 l) ∧ mq_pl (s.2.2.2.1 l)) ∧ s.1 < 2 ^ 31 ∧ mq_SH (mq_st a1 a2 a3 s.2.1 s.2.2.1 s.2.2.2.1) c N i ≤ s.1) (cc + 1) 0 (4 ^ N, a5, a6, a7, a8, a9, a10, a11, a12, a13, d8, d9, d10, d11, d12, d13) (by omega) ⟨fun l hl => absurd hl (by omega), by show 4 ^ N < 2 ^ 31; omega, mq_SH_le hc⟩ ?_ ?_
  · rintro n ⟨lst, a5, a6, a7, a8, a9, a10, a11, a12, a13, d8, d9, d10, d11, d12, d13⟩ ⟨i1, i2, i3⟩
    dsimp only at i1 i2 i3
    refine pk_lt cc (cc + 1) (fun _ => mr_share (by omega) (by omega) i1 (Or.inl rfl) hc h4 (fun b8 b9 b10 b11 b12 b13 hq => ?_)) (fun z => absurd z (by omega))
    exact pk_lt lst (mq_SH (mq_st a1 a2 a3 a5 a6 a7) c N (cc + 1)) (fun z => absurd z (by omega)) (fun _ => hpost)
  · rintro n i ⟨lst, a5, a6, a7, a8, a9, a10, a11, a12, a13, d8, d9, d10, d11, d12, d13⟩ hi ⟨i1, i2, i3⟩ hw
    dsimp only at i1 i2 i3
    have hS : mq_SH (mq_st a1 a2 a3 a5 a6 a7) c N i ≤ 4 ^ N := mq_SH_le hc
    have hSy : mq_SH (mq_st d1 d2 d3 a5 a6 a7) (fun _ => 4) m i ≤ 4 ^ m := mq_SH_le (fun _ _ => Nat.le_refl 4)
    have hlaw := mq_J_sh (a5 := a5) (a6 := a6) (a7 := a7) (K := i) hc hJ
    refine pk_lt cc i (fun z => absurd z (by omega)) (fun _ => mr_share (by omega) (by omega) i1 (Or.inl rfl) hc h4 (fun b8 b9 b10 b11 b12 b13 hq => ?_))
    refine mr_share (c := fun _ => 4) (by omega) (by omega) i1 (Or.inl rfl) (fun _ _ => Nat.le_refl 4) hd4 (fun e8 e9 e10 e11 e12 e13 hqy => ?_)
    refine mr_all (by omega) (br_t rfl (mr_all (by omega) (br_t rfl (pk_lt (mq_SH (mq_st a1 a2 a3 a5 a6 a7) c N i) 0 (fun z => absurd z (by omega)) (fun _ => pk_le (mq_SH (mq_st a1 a2 a3 a5 a6 a7) c N i) lst (fun _ => ?_) (fun z => absurd z (by omega)))))))
    have key := mr_225 (post := post) (L := L) (xs := xs) (kc := kc) (ks := ks) (J := wL_law_133 post L xs (nI N) (nI (4 ^ N)) (nI (4 ^ m)) (nI cc) kc ks n) (x4 := nI (4 ^ N)) (x5 := nI (4 ^ m)) (x7 := nI cc) (g0 := nI m) (g2 := 1) (a8 := b8) (a9 := b9) (a10 := b10) (a13 := b13) (d1 := d1) (d2 := d2) (d3 := d3) (d4 := d4) (d5 := a5) (d6 := a6) (d7 := a7) (d8 := e8) (d9 := e9) (d10 := e10) (d11 := e11) (d12 := e12) (d13 := e13) hL hN (show i < 4 by omega) i1 (Or.inr ⟨rfl, hq⟩) hc h4 hb hc1 ?_
    · have z10 : nI (mq_SH (mq_st d1 d2 d3 a5 a6 a7) (fun _ => 4) m i) = 0 ∨ nI (mq_SH (mq_st d1 d2 d3 a5 a6 a7) (fun _ => 4) m i) = nI (4 ^ m) := by
        rcases hlaw.2 with z | z
        · rw [z]; exact Or.inl rfl
        · rw [z]; exact Or.inr rfl
      refine pk_eq (mq_SH (mq_st a1 a2 a3 a5 a6 a7) c N i) (4 ^ N) (fun e => mr_196 ⟨fun _ => rfl, fun z => absurd (by rw [hlaw.1.mp e]) z⟩ z10 key) (fun e => mr_196 ⟨fun z => absurd (hlaw.1.mpr ((nI_eq (by omega) (by omega)).mp z)) e, fun _ => rfl⟩ z10 key)
    · intro v p q k8 k9 k10 k11 k12 k13 hpp hqq
      refine hw (mq_SH (mq_st a1 a2 a3 a5 a6 a7) c N i, upd a5 i v, upd a6 i p, upd a7 i q, k8, k9, k10, k11, k12, k13, e8, e9, e10, e11, e12, e13) ⟨fun l hl => ?_, by show mq_SH (mq_st a1 a2 a3 a5 a6 a7) c N i < 2 ^ 31; omega, mq_SH_less (fun E l f hl => ?_)⟩
      · show mq_pl (upd a6 i p l) ∧ mq_pl (upd a7 i q l)
        by_cases e : l = i
        · rw [e, pk_us, pk_us]; exact ⟨hpp, hqq⟩
        · rw [pk_un e, pk_un e]; exact i1 l (by omega)
      · show mq_st a1 a2 a3 (upd a5 i v) (upd a6 i p) (upd a7 i q) E l f = mq_st a1 a2 a3 a5 a6 a7 E l f
        have e : l ≠ i := by omega
        unfold mq_st
        rw [pk_un e, pk_un e, pk_un e]
theorem mq_J_x {n m : Nat} {c : Nat → Nat} {u1 u2 u3 u4 : Int32} (h : mq_J n m c a1 a2 a3 a4 d1 d2 d3 d4) (hu : u4 = nI (c n)) (hn : c n ≠ 4) : mq_J (n + 1) m c (upd a1 n u1) (upd a2 n u2) (upd a3 n u3) (upd a4 n u4) d1 d2 d3 d4 := by
  obtain ⟨h0, h4, g, h1, h2⟩ := h
  refine ⟨by omega, fun j hj => ?_, g, fun j hj => ?_, fun f hf h4' => ?_⟩
  · by_cases e : j = n
    · rw [e, pk_us]; exact hu
    · rw [pk_un e]; exact h4 j (by omega)
  · obtain ⟨q0, q1, q2, q3, q4, q5⟩ := h1 j hj
    have e : g j ≠ n := by omega
    rw [pk_un e, pk_un e, pk_un e]
    exact ⟨by omega, q1, q2, q3, q4, q5⟩
  · by_cases e : f = n
    · rw [e] at h4'; exact absurd h4' hn
    · exact h2 f (by omega) h4'
theorem mq_J_xy {n m : Nat} {c : Nat → Nat} {u1 u2 u3 u4 : Int32} (h : mq_J n m c a1 a2 a3 a4 d1 d2 d3 d4) (hu : u4 = nI (c n)) (hn : c n = 4) : mq_J (n + 1) (m + 1) c (upd a1 n u1) (upd a2 n u2) (upd a3 n u3) (upd a4 n u4) (upd d1 m u1) (upd d2 m u2) (upd d3 m u3) (upd d4 m (nI 4)) := by
  obtain ⟨h0, h4, g, h1, h2⟩ := h
  refine ⟨by omega, fun j hj => ?_, fun j => if j = m then n else g j, fun j hj => ?_, fun f hf h4' => ?_⟩
  · by_cases e : j = n
    · rw [e, pk_us]; exact hu
    · rw [pk_un e]; exact h4 j (by omega)
  · dsimp only
    by_cases e : j = m
    · rw [if_pos e, e]
      refine ⟨by omega, hn, ?_, ?_, ?_, ?_⟩ <;> simp only [pk_us]
    · rw [if_neg e]
      obtain ⟨q0, q1, q2, q3, q4, q5⟩ := h1 j (by omega)
      have e' : g j ≠ n := by omega
      rw [pk_un e, pk_un e, pk_un e, pk_un e, pk_un e', pk_un e', pk_un e']
      exact ⟨by omega, q1, q2, q3, q4, q5⟩
  · by_cases e : f = n
    · exact ⟨m, by omega, by dsimp only; rw [if_pos rfl, e]⟩
    · obtain ⟨j, q1, q2⟩ := h2 f (by omega) h4'
      exact ⟨j, by omega, by dsimp only; rw [if_neg (by omega)]; exact q2⟩
theorem mr_loop1 {N : Nat} (hL : L ≤ 260) (hN : N ≤ 8) (hpost : post 1) :
    ∃ n, wL_law_36 post L xs (nI N) kc ks n 1 1 0 0 0 0 (fun _ => 0) (fun _ => 0) (fun _ => 0) (fun _ => 0) (fun _ => 0) (fun _ => 0) (fun _ => 0) (fun _ => 0) (fun _ => 0) (fun _ => 0) (fun _ => 0) (fun _ => 0) (fun _ => 0) 0 0 0 (fun _ => 0) (fun _ => 0) (fun _ => 0) (fun _ => 0) (fun _ => 0) (fun _ => 0) (fun _ => 0) (fun _ => 0) (fun _ => 0) (fun _ => 0) (fun _ => 0) (fun _ => 0) (fun _ => 0) := by
  refine pk_loop (fun n i (s : Nat × (Nat → Int32) × (Nat → Int32) × (Nat → Int32) × (Nat → Int32) × (Nat → Int32) × (Nat → Int32) × (Nat → Int32) × (Nat → Int32)) => wL_law_36 post L xs (nI N) kc ks n (nI (4 ^ i)) (nI (4 ^ s.1)) (nI i) (nI i) 0 0 s.2.1 s.2.2.1 s.2.2.2.1 s.2.2.2.2.1 (fun _ => 0) (fun _ => 0) (fun _ => 0) (fun _ => 0) (fun _ => 0) (fun _ => 0) (fun _ => 0) (fun _ => 0) (fun _ => 0) (nI s.1) 0 0 s.2.2.2.2.2.1 s.2.2.2.2.2.2.1 s.2.2.2.2.2.2.2.1 s.2.2.2.2.2.2.2.2 (fun _ => 0) (fun _ => 0) (fun _ => 0) (fun _ => 0) (fun _ => 0) (fun _ => 0) (fun _ => 0) (fun _ => 0) (fun _ => 0))
    (fun i s => mq_J i s.1 (fun j => mq_nb (mq_cl L xs (2 + j))) s.2.1 s.2.2.1 s.2.2.2.1 s.2.2.2.2.1 s.2.2.2.2.2.1 s.2.2.2.2.2.2.1 s.2.2.2.2.2.2.2.1 s.2.2.2.2.2.2.2.2) N 0 (0, (fun _ => 0), (fun _ => 0), (fun _ => 0), (fun _ => 0), (fun _ => 0), (fun _ => 0), (fun _ => 0), (fun _ => 0)) (by omega) ⟨by show 0 ≤ 0; omega, fun j hj => absurd hj (by omega), fun j => j, fun j hj => absurd hj (by show ¬ j < 0; omega), fun f hf => absurd hf (by omega)⟩ ?_ ?_
  · rintro n ⟨m, a1, a2, a3, a4, d1, d2, d3, d4⟩ hs
    dsimp only at hs
    refine pk_le N N (fun _ => mr_cell hL 1 rfl (by omega) ?_) (fun z => absurd z (by omega))
    obtain ⟨cc, hcc, e⟩ := pk_andE (mq_cl L xs 1) (m := 3) 2 rfl
    refine nm_r e ?_
    exact mr_loop2 (c := (fun j => mq_nb (mq_cl L xs (2 + j)))) hL hN hcc (fun j _ => mq_nb_4 _) (fun j _ => mq_nb_1 _) (fun j _ => rfl) hs hpost
  · rintro n i ⟨m, a1, a2, a3, a4, d1, d2, d3, d4⟩ hi hs hw
    dsimp only at hs
    have hm : m ≤ i := hs.1
    have hq1 := mq_nb_1 (mq_cl L xs (2 + i))
    have hq4 := mq_nb_4 (mq_cl L xs (2 + i))
    refine pk_le N i (fun z => absurd z (by omega)) (fun _ => mr_cell hL (2 + i) (nI_add 2 i) (by omega) (mr_edge _ (fun e e1 e2 => mr_number _ ?_)))
    refine mr_fact (mq_nb (mq_cl L xs (2 + i))) rfl (by omega) e1 e2 hq1 hq4 (br_t rfl (nm_r (pk_mul (4 ^ i) 4) (pk_eq (mq_nb (mq_cl L xs (2 + i))) 4 (fun z => ?_) (fun z => nm_r (nI_1 i) ?_))))
    · refine mr_fact 4 rfl (by omega) e1 e2 (by omega) (by omega) (br_t (nI_pos' (by omega)) (nm_r (pk_mul (4 ^ m) 4) (nm_r (nI_1 i) ?_)))
      exact hw (m + 1, _, _, _, _, _, _, _, _) (mq_J_xy hs rfl z)
    · exact hw (m, _, _, _, _, _, _, _, _) (mq_J_x hs rfl z)
end
theorem i_vc (xs : Nat → Int32) (L : Nat) (hL : L ≤ 260) : wpL_law (fun r => r = 1) L xs := by
  unfold wpL_law
  refine ⟨13, 1597, by omega, by omega, ?_⟩
  unfold wpX_init
  refine ⟨by omega, by omega, by omega, by omega, by omega, by omega, by omega, by omega, by omega, by omega, by omega, by omega, by omega, by omega, by omega, by omega, by omega, by omega, by omega, by omega, by omega, by omega, by omega, by omega, by omega, by omega, ?_⟩
  refine ⟨by omega, by omega, 13, 1597, by omega, by omega, ?_⟩
  refine ⟨by omega, by omega, by omega, by omega, by omega, by omega, by omega, by omega, by omega, by omega, by omega, by omega, by omega, by omega, by omega, by omega, by omega, by omega, by omega, by omega, by omega, by omega, by omega, by omega, by omega, by omega, ?_⟩
  refine mr_cell hL 0 rfl (by omega) ?_
  obtain ⟨j, hj, e⟩ := pk_andE (mq_cl L xs 0) (m := 7) 3 rfl
  refine nm_r (e' := nI (1 + j)) (by rw [e]; exact nI_add 1 j) ?_
  exact mr_loop1 hL (by omega) rfl
end
