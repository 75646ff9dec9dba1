section
/-! the first l of 16 bits: agreement, the bit behind them, the cut -/
def pr_ag (l x y : Nat) : Prop := x / 2 ^ (16 - l) = y / 2 ^ (16 - l)
def pr_bit (l x : Nat) : Nat := x / 2 ^ (15 - l) % 2
def pr_cut (l x : Nat) : Nat := x / 2 ^ (16 - l) * 2 ^ (16 - l)
theorem pr_ag_refl (l x : Nat) : pr_ag l x x := rfl
theorem pr_ag_symm {l x y : Nat} (h : pr_ag l x y) : pr_ag l y x := Eq.symm h
theorem pr_ag_trans {l x y z : Nat} (h : pr_ag l x y) (g : pr_ag l y z) : pr_ag l x z := Eq.trans h g
theorem pr_div_add (x a d : Nat) : x / 2 ^ (a + d) = x / 2 ^ a / 2 ^ d := by
  rw [Nat.pow_add, Nat.div_div_eq_div_mul]
theorem pr_ag_mono {l l' x y : Nat} (h : l' ≤ l) (g : pr_ag l x y) : pr_ag l' x y := by
  unfold pr_ag at *
  obtain ⟨d, hd⟩ : ∃ d, 16 - l' = (16 - l) + d := ⟨16 - l' - (16 - l), by omega⟩
  rw [hd, pr_div_add x, pr_div_add y, g]
theorem pr_ag_succ {l x y : Nat} (h : l < 16) : pr_ag (l + 1) x y ↔ pr_ag l x y ∧ pr_bit l x = pr_bit l y := by
  unfold pr_ag pr_bit
  obtain ⟨k, hk⟩ : ∃ k, 16 - l = k + 1 := ⟨15 - l, by omega⟩
  rw [show 16 - (l + 1) = k by omega, show 15 - l = k by omega, hk, pr_div_add x, pr_div_add y, Nat.pow_one]
  generalize x / 2 ^ k = u
  generalize y / 2 ^ k = v
  omega
theorem pr_ag_zero {x y : Nat} (hx : x < 65536) (hy : y < 65536) : pr_ag 0 x y := by
  unfold pr_ag
  rw [Nat.div_eq_of_lt (show x < 2 ^ (16 - 0) from hx), Nat.div_eq_of_lt (show y < 2 ^ (16 - 0) from hy)]
theorem pr_bit_ag {l k x y : Nat} (h : pr_ag l x y) (hk : k < l) (hl : l ≤ 16) : pr_bit k x = pr_bit k y :=
  ((pr_ag_succ (by omega)).mp (pr_ag_mono (show k + 1 ≤ l by omega) h)).2
theorem pr_bit_lt (l x : Nat) : pr_bit l x < 2 := Nat.mod_lt _ (by omega)
theorem pr_pow_pos (k : Nat) : 0 < 2 ^ k := Nat.pow_pos (by omega)
theorem pr_cut_ag (l x : Nat) : pr_ag l (pr_cut l x) x := by
  unfold pr_ag pr_cut
  exact Nat.mul_div_cancel _ (pr_pow_pos _)
theorem pr_cut_le (l x : Nat) : pr_cut l x ≤ x := Nat.div_mul_le_self _ _
theorem pr_cut_mod (l x : Nat) : pr_cut l x % 2 ^ (16 - l) = 0 := Nat.mul_mod_left _ _
theorem pr_cut_self {l p : Nat} (h : p % 2 ^ (16 - l) = 0) : pr_cut l p = p := by
  unfold pr_cut
  have := Nat.div_add_mod p (2 ^ (16 - l))
  rw [h, Nat.mul_comm] at this
  omega
theorem pr_cut_iff {l p x : Nat} (h : p % 2 ^ (16 - l) = 0) : pr_cut l x = p ↔ pr_ag l p x := by
  constructor
  · intro e
    rw [← e]
    exact pr_cut_ag l x
  · intro e
    have := pr_cut_self h
    unfold pr_cut at this ⊢
    unfold pr_ag at e
    rw [← e]
    exact this
theorem pr_cut_inj {l p q : Nat} (hp : p % 2 ^ (16 - l) = 0) (hq : q % 2 ^ (16 - l) = 0) (h : pr_ag l p q) : p = q := by
  rw [← (pr_cut_iff hp).mpr h, pr_cut_self hq]
/-- a cut at l is a cut at every later place -/
theorem pr_mod_mono {l m p : Nat} (h : l ≤ m) (hp : p % 2 ^ (16 - l) = 0) : p % 2 ^ (16 - m) = 0 := by
  obtain ⟨d, hd⟩ : ∃ d, 16 - l = (16 - m) + d := ⟨16 - l - (16 - m), by omega⟩
  rw [hd, Nat.pow_add] at hp
  exact Nat.mod_eq_zero_of_dvd (Nat.dvd_trans (Nat.dvd_mul_right _ _) (Nat.dvd_of_mod_eq_zero hp))
theorem pr_ag_iv {l p x : Nat} (h : p % 2 ^ (16 - l) = 0) : pr_ag l p x ↔ p ≤ x ∧ x < p + 2 ^ (16 - l) := by
  have ha := pr_pow_pos (16 - l)
  unfold pr_ag
  generalize 2 ^ (16 - l) = a at *
  have hp : a * (p / a) = p := by
    have := Nat.div_add_mod p a
    omega
  constructor
  · intro e
    have h1 := Nat.div_add_mod x a
    have h2 := Nat.mod_lt x ha
    rw [← e, hp] at h1
    omega
  · intro ⟨h1, h2⟩
    refine (Nat.div_eq_of_lt_le ?_ ?_).symm
    · rw [Nat.mul_comm, hp]
      exact h1
    · rw [Nat.add_mul, Nat.mul_comm, hp]
      omega
theorem pr_end_le {l p : Nat} (hl : l ≤ 16) (hp : p < 65536) (h : p % 2 ^ (16 - l) = 0) : p + 2 ^ (16 - l) ≤ 65536 := by
  have ha := pr_pow_pos (16 - l)
  have e : 2 ^ (16 - l) * 2 ^ l = 65536 := by
    rw [← Nat.pow_add, show 16 - l + l = 16 by omega]
  generalize 2 ^ (16 - l) = a at *
  generalize 2 ^ l = c at *
  have hk : a * (p / a) = p := by
    have := Nat.div_add_mod p a
    omega
  have : p / a < c := by
    refine Nat.lt_of_not_le (fun z => ?_)
    have := Nat.mul_le_mul_left a z
    omega
  have := Nat.mul_le_mul_left a (show p / a + 1 ≤ c from this)
  rw [Nat.mul_add] at this
  omega
theorem pr_size_le {l : Nat} : 2 ^ (16 - l) ≤ 65536 := Nat.pow_le_pow_right (n := 2) (by omega) (show 16 - l ≤ 16 by omega)
/-! the same in ints -/
theorem pr_andI (a b : Nat) : nI a &&& nI b = nI (a &&& b) := by
  apply Int32.toBitVec_inj.mp
  show BitVec.ofNat 32 a &&& BitVec.ofNat 32 b = BitVec.ofNat 32 (a &&& b)
  apply BitVec.eq_of_toNat_eq
  rw [BitVec.toNat_and, BitVec.toNat_ofNat, BitVec.toNat_ofNat, BitVec.toNat_ofNat, Nat.and_mod_two_pow]
theorem pr_shc : ∀ l, l < 17 → (((16 - nI l) &&& 31).toBitVec.smod 32).toNat = 16 - l := by decide +kernel
theorem pr_shb : ∀ l, l < 16 → (((15 - nI l).toUInt32 &&& Int32.toUInt32 31).toBitVec % 32).toNat = 15 - l := by decide +kernel
theorem pr_size : ∀ l, l < 17 → (65536 : Int32) >>> (nI l &&& 31) = nI (2 ^ (16 - l)) := by decide +kernel
theorem pr_maskN {x k : Nat} (hx : x < 65536) : (x &&& (65535 * 2 ^ k)) % 2 ^ 16 = x / 2 ^ k * 2 ^ k := by
  apply Nat.eq_of_testBit_eq
  intro i
  rw [Nat.testBit_mod_two_pow, Nat.testBit_and, show (65535 : Nat) = 2 ^ 16 - 1 from rfl, ← Nat.shiftLeft_eq, ← Nat.shiftLeft_eq, ← Nat.shiftRight_eq_div_pow, Nat.testBit_shiftLeft, Nat.testBit_shiftLeft, Nat.testBit_two_pow_sub_one, Nat.testBit_shiftRight]
  by_cases h1 : k ≤ i
  · rw [show k + (i - k) = i by omega]
    by_cases h2 : i < 16
    · simp [h1, h2, show i - k < 16 by omega]
    · have : x.testBit i = false := Nat.testBit_lt_two_pow (Nat.lt_of_lt_of_le hx (Nat.pow_le_pow_right (n := 2) (by omega) (show 16 ≤ i by omega)))
      simp [this]
  · simp [h1]
theorem pr_cutI {x l : Nat} (hx : x < 65536) (hl : l ≤ 16) : (nI x &&& ((65535 : Int32) <<< ((16 - nI l) &&& 31))) &&& 65535 = nI (pr_cut l x) := by
  have hp : 2 ^ (16 - l) ≤ 65536 := pr_size_le
  rw [show (65535 : Int32) <<< ((16 - nI l) &&& 31) = nI (65535 * 2 ^ (16 - l)) from pk_shlN (n := 65535) _ (16 - l) (pr_shc l (by omega)) (by omega), pr_andI]
  rw [pk_andN (n := x &&& (65535 * 2 ^ (16 - l))) (Nat.lt_of_le_of_lt Nat.and_le_left (by omega)) 16 (by decide), pr_maskN hx]
  rfl
theorem pr_bitI {x l : Nat} (hx : x < 65536) (hl : l < 16) : (((nI x).toUInt32 >>> ((15 - nI l).toUInt32 &&& Int32.toUInt32 31)).toInt32) &&& 1 = nI (pr_bit l x) := by
  rw [pk_ushrN (n := x) (by omega) _ (15 - l) (pr_shb l hl), pk_andN (Nat.lt_of_le_of_lt (Nat.div_le_self _ _) (by omega)) 1 (by decide)]
  rfl
theorem pr_maskI (x : Int32) : ∃ k, k < 65536 ∧ x &&& 65535 = nI k := pk_andE x 16 (by decide)
theorem pr_maskS {k : Nat} (h : k < 65536) : nI k &&& 65535 = nI k := by
  rw [pk_andN (n := k) (by omega) 16 (by decide), Nat.mod_eq_of_lt h]
/-! nothing or a number, as an int: -1 or the number -/
def pr_oI : Option Nat → Int32
  | none => -1
  | some k => nI k
theorem pr_oI_neg {o : Option Nat} {A B : Prop} (ho : ∀ k, o = some k → k < 2 ^ 31) (f : o = none → A) (g : ∀ k, o = some k → B) : (pr_oI o < 0 → A) ∧ (¬ pr_oI o < 0 → B) := by
  cases o with
  | none => exact br_t (by decide) (f rfl)
  | some k => exact br_f (nI_pos (ho k rfl)) (g k rfl)
theorem pr_oI_pos {o : Option Nat} {A B : Prop} (ho : ∀ k, o = some k → k < 2 ^ 31) (f : ∀ k, o = some k → A) (g : o = none → B) : (0 ≤ pr_oI o → A) ∧ (¬ 0 ≤ pr_oI o → B) := by
  cases o with
  | none => exact br_f (by decide) (g rfl)
  | some k => exact br_t (nI_pos' (ho k rfl)) (f k rfl)
theorem pr_nI_m1 {k : Nat} (h : k < 2 ^ 31) : ¬ nI k = -1 := by
  intro e
  have := nI_pos h
  rw [e] at this
  exact this (by decide)
theorem pr_oI_inj {o o' : Option Nat} (h : ∀ k, o = some k → k < 2 ^ 31) (h' : ∀ k, o' = some k → k < 2 ^ 31) (e : pr_oI o = pr_oI o') : o = o' := by
  cases o with
  | none => cases o' with
    | none => rfl
    | some k => exact absurd e.symm (pr_nI_m1 (h' k rfl))
  | some k => cases o' with
    | none => exact absurd e (pr_nI_m1 (h k rfl))
    | some k' => rw [(nI_eq (h k rfl) (h' k' rfl)).mp e]
end
section
/-! counting -/
noncomputable def pr_i (p : Prop) : Nat := @ite Nat p (Classical.propDecidable p) 1 0
theorem pr_i1 {p : Prop} (h : p) : pr_i p = 1 := by
  unfold pr_i
  exact if_pos h
theorem pr_i0 {p : Prop} (h : ¬ p) : pr_i p = 0 := by
  unfold pr_i
  exact if_neg h
theorem pr_i_congr {p q : Prop} (h : p ↔ q) : pr_i p = pr_i q := by rw [propext h]
noncomputable def pr_cnt (P : Nat → Prop) : Nat → Nat
  | 0 => 0
  | n + 1 => pr_cnt P n + pr_i (P n)
theorem pr_cnt_0 (P : Nat → Prop) : pr_cnt P 0 = 0 := rfl
theorem pr_cnt_s (P : Nat → Prop) (n : Nat) : pr_cnt P (n + 1) = pr_cnt P n + pr_i (P n) := rfl
theorem pr_cnt_congr {P Q : Nat → Prop} {n : Nat} (h : ∀ k, k < n → (P k ↔ Q k)) : pr_cnt P n = pr_cnt Q n := by
  induction n with
  | zero => rfl
  | succ n ih => rw [pr_cnt_s, pr_cnt_s, ih (fun k hk => h k (by omega)), pr_i_congr (h n (by omega))]
theorem pr_cnt_split (P Q : Nat → Prop) (n : Nat) : pr_cnt P n = pr_cnt (fun k => P k ∧ Q k) n + pr_cnt (fun k => P k ∧ ¬ Q k) n := by
  induction n with
  | zero => rfl
  | succ n ih =>
    rw [pr_cnt_s, pr_cnt_s, pr_cnt_s, ih]
    by_cases hp : P n
    · by_cases hq : Q n
      · rw [pr_i1 hp, pr_i1 (show P n ∧ Q n from ⟨hp, hq⟩), pr_i0 (show ¬ (P n ∧ ¬ Q n) from fun z => z.2 hq)]
        omega
      · rw [pr_i1 hp, pr_i0 (show ¬ (P n ∧ Q n) from fun z => hq z.2), pr_i1 (show P n ∧ ¬ Q n from ⟨hp, hq⟩)]
        omega
    · rw [pr_i0 hp, pr_i0 (show ¬ (P n ∧ Q n) from fun z => hp z.1), pr_i0 (show ¬ (P n ∧ ¬ Q n) from fun z => hp z.1)]
      omega
theorem pr_cnt_zero {P : Nat → Prop} {n : Nat} (h : ∀ k, k < n → ¬ P k) : pr_cnt P n = 0 := by
  induction n with
  | zero => rfl
  | succ n ih => rw [pr_cnt_s, ih (fun k hk => h k (by omega)), pr_i0 (h n (by omega))]
theorem pr_cnt_all {P : Nat → Prop} {n : Nat} (h : ∀ k, k < n → P k) : pr_cnt P n = n := by
  induction n with
  | zero => rfl
  | succ n ih => rw [pr_cnt_s, ih (fun k hk => h k (by omega)), pr_i1 (h n (by omega))]
theorem pr_cnt_not (P : Nat → Prop) (n : Nat) : pr_cnt P n + pr_cnt (fun k => ¬ P k) n = n := by
  have h1 := pr_cnt_split (fun _ => True) P n
  rw [pr_cnt_all (fun _ _ => trivial)] at h1
  rw [pr_cnt_congr (P := P) (Q := fun k => True ∧ P k) (fun k _ => ⟨fun z => ⟨trivial, z⟩, fun z => z.2⟩), pr_cnt_congr (P := fun k => ¬ P k) (Q := fun k => True ∧ ¬ P k) (fun k _ => ⟨fun z => ⟨trivial, z⟩, fun z => z.2⟩)]
  exact h1.symm
theorem pr_cnt_le (P : Nat → Prop) (n : Nat) : pr_cnt P n ≤ n := by
  have := pr_cnt_not P n
  omega
theorem pr_cnt_mono {P Q : Nat → Prop} {n : Nat} (h : ∀ k, k < n → P k → Q k) : pr_cnt P n ≤ pr_cnt Q n := by
  rw [pr_cnt_split Q P n, pr_cnt_congr (P := fun k => Q k ∧ P k) (Q := P) (fun k hk => ⟨fun z => z.2, fun z => ⟨h k hk z, z⟩⟩)]
  omega
theorem pr_cnt_one {a n : Nat} (h : a < n) : pr_cnt (fun k => k = a) n = 1 := by
  induction n with
  | zero => omega
  | succ n ih =>
    rw [pr_cnt_s]
    by_cases e : n = a
    · rw [pr_i1 e, pr_cnt_zero (fun k hk z => by omega)]
    · rw [pr_i0 e, ih (by omega)]
theorem pr_cnt_add {P Q : Nat → Prop} {a n : Nat} (ha : a < n) (hP : ¬ P a) (hQ : Q a) (h : ∀ k, k < n → k ≠ a → (Q k ↔ P k)) : pr_cnt Q n = pr_cnt P n + 1 := by
  rw [pr_cnt_split Q (fun k => k = a) n, pr_cnt_congr (P := fun k => Q k ∧ k = a) (Q := fun k => k = a) (fun k _ => ⟨fun z => z.2, fun z => ⟨z ▸ hQ, z⟩⟩), pr_cnt_one ha, pr_cnt_congr (P := fun k => Q k ∧ ¬ k = a) (Q := P) (fun k hk => ⟨fun z => (h k hk z.2).mp z.1, fun z => ?_⟩)]
  · omega
  · have : k ≠ a := fun e => hP (e ▸ z)
    exact ⟨(h k hk this).mpr z, this⟩
theorem pr_cnt_pos {P : Nat → Prop} {k n : Nat} (hk : k < n) (h : P k) : 0 < pr_cnt P n := by
  have := pr_cnt_mono (P := fun j => j = k) (Q := P) (n := n) (fun j _ e => e ▸ h)
  rw [pr_cnt_one hk] at this
  omega
theorem pr_cnt_none {P : Nat → Prop} {n : Nat} (h : pr_cnt P n = 0) : ∀ k, k < n → ¬ P k := fun k hk z => by
  have := pr_cnt_pos hk z
  omega
theorem pr_cnt_full {P : Nat → Prop} {n : Nat} (h : n ≤ pr_cnt P n) : ∀ k, k < n → P k := fun k hk => by
  have h2 := pr_cnt_not P n
  exact Classical.byContradiction (pr_cnt_none (P := fun k => ¬ P k) (n := n) (by omega) k hk)
theorem pr_cnt_iv {a s n : Nat} (h : a + s ≤ n) : pr_cnt (fun x => a ≤ x ∧ x < a + s) n = s := by
  induction n generalizing s with
  | zero =>
    rw [pr_cnt_0]
    omega
  | succ n ih =>
    rw [pr_cnt_s]
    by_cases e : a + s ≤ n
    · rw [ih e, pr_i0 (by omega)]
      rfl
    · by_cases z : s = 0
      · rw [pr_cnt_zero (fun k hk w => by omega), pr_i0 (by omega), z]
      · rw [pr_i1 (show a ≤ n ∧ n < a + s by omega), pr_cnt_congr (Q := fun x => a ≤ x ∧ x < a + (s - 1)) (fun k hk => by omega), ih (by omega)]
        omega
theorem pr_cnt_inj {P : Nat → Prop} {m n : Nat} (g : Nat → Nat) : ∀ {Q : Nat → Prop}, (∀ j, j < m → P j → g j < n ∧ Q (g j)) → (∀ i j, i < m → j < m → P i → P j → g i = g j → i = j) → pr_cnt P m ≤ pr_cnt Q n := by
  induction m with
  | zero =>
    intro Q _ _
    rw [pr_cnt_0]
    omega
  | succ m ih =>
    intro Q h1 h2
    rw [pr_cnt_s]
    by_cases hp : P m
    · obtain ⟨hg, hq⟩ := h1 m (by omega) hp
      rw [pr_i1 hp, pr_cnt_add (P := fun k => Q k ∧ k ≠ g m) (Q := Q) hg (fun z => z.2 rfl) hq (fun k _ hk => ⟨fun z => ⟨z, hk⟩, fun z => z.1⟩)]
      have := ih (Q := fun k => Q k ∧ k ≠ g m) (fun j hj hpj => ⟨(h1 j (by omega) hpj).1, (h1 j (by omega) hpj).2, fun e => by
        have := h2 j m (by omega) (by omega) hpj hp e
        omega⟩) (fun i j hi hj => h2 i j (by omega) (by omega))
      omega
    · rw [pr_i0 hp]
      have := ih (Q := Q) (fun j hj => h1 j (by omega)) (fun i j hi hj => h2 i j (by omega) (by omega))
      omega
theorem pr_cnt_two (P : Nat → Prop) (n : Nat) : pr_cnt (fun j => P (j / 2)) (2 * n) = 2 * pr_cnt P n := by
  induction n with
  | zero => rfl
  | succ n ih =>
    rw [show 2 * (n + 1) = 2 * n + 1 + 1 by omega, pr_cnt_s, pr_cnt_s, pr_cnt_s, ih, show (2 * n + 1) / 2 = n by omega, show (2 * n) / 2 = n by omega]
    omega
/-- the values change on one stretch from u to v -/
theorem pr_cnt_chg {α : Type} {f g : Nat → α} {a s n : Nat} {u v : α} (w : α) (h : a + s ≤ n) (hf : ∀ x, a ≤ x → x < a + s → f x = u) (hg : ∀ x, a ≤ x → x < a + s → g x = v) (ho : ∀ x, x < n → ¬ (a ≤ x ∧ x < a + s) → g x = f x) : pr_cnt (fun x => g x = w) n + pr_i (u = w) * s = pr_cnt (fun x => f x = w) n + pr_i (v = w) * s := by
  have one : ∀ (f : Nat → α) (u : α), (∀ x, a ≤ x → x < a + s → f x = u) → pr_cnt (fun x => f x = w ∧ (a ≤ x ∧ x < a + s)) n = pr_i (u = w) * s := by
    intro f u hf
    by_cases e : u = w
    · rw [pr_i1 e, Nat.one_mul]
      refine Eq.trans (pr_cnt_congr (fun k _ => ⟨fun z => z.2, fun z => ⟨?_, z⟩⟩)) (pr_cnt_iv h)
      rw [hf k z.1 z.2, e]
    · rw [pr_i0 e, Nat.zero_mul]
      refine pr_cnt_zero (fun k _ z => e ?_)
      rw [← hf k z.2.1 z.2.2]
      exact z.1
  rw [pr_cnt_split (fun x => g x = w) (fun x => a ≤ x ∧ x < a + s) n, pr_cnt_split (fun x => f x = w) (fun x => a ≤ x ∧ x < a + s) n, one f u hf, one g v hg, pr_cnt_congr (P := fun k => g k = w ∧ ¬ (a ≤ k ∧ k < a + s)) (Q := fun k => f k = w ∧ ¬ (a ≤ k ∧ k < a + s)) (fun k hk => ?_)]
  · omega
  · constructor
    · intro z
      exact ⟨by rw [← ho k hk z.2]; exact z.1, z.2⟩
    · intro z
      exact ⟨by rw [ho k hk z.2]; exact z.1, z.2⟩
/-- the sums that the law builds: nobody, then peer 0, 1 .. -/
noncomputable def pr_ps (o : Nat → Option Nat) (n : Nat) : Nat → Nat
  | 0 => pr_cnt (fun x => o x = none) n
  | k + 1 => pr_ps o n k + pr_cnt (fun x => o x = some k) n
theorem pr_ps_cnt (o : Nat → Option Nat) (n k : Nat) : pr_ps o n k = pr_cnt (fun x => o x = none ∨ ∃ q, q < k ∧ o x = some q) n := by
  induction k with
  | zero =>
    refine pr_cnt_congr (fun x _ => ⟨fun z => Or.inl z, fun z => ?_⟩)
    rcases z with z | ⟨q, hq, _⟩
    · exact z
    · omega
  | succ k ih =>
    show pr_ps o n k + pr_cnt (fun x => o x = some k) n = _
    rw [ih, pr_cnt_split (fun x => o x = none ∨ ∃ q, q < k + 1 ∧ o x = some q) (fun x => o x = some k) n, Nat.add_comm]
    congr 1
    · refine pr_cnt_congr (fun x _ => ⟨fun z => ⟨Or.inr ⟨k, by omega, z⟩, z⟩, fun z => z.2⟩)
    · refine pr_cnt_congr (fun x _ => ⟨fun z => ?_, fun z => ?_⟩)
      · rcases z with z | ⟨q, hq, z⟩
        · exact ⟨Or.inl z, by rw [z]; exact fun w => (nomatch w)⟩
        · refine ⟨Or.inr ⟨q, by omega, z⟩, ?_⟩
          rw [z]
          intro w
          have := Option.some.inj w
          omega
      · rcases z.1 with w | ⟨q, hq, w⟩
        · exact Or.inl w
        · refine Or.inr ⟨q, ?_, w⟩
          have : q ≠ k := fun e => z.2 (e ▸ w)
          omega
theorem pr_ps_all {o : Nat → Option Nat} {n k : Nat} (h : ∀ x, x < n → ∀ q, o x = some q → q < k) : pr_ps o n k = n := by
  rw [pr_ps_cnt]
  refine pr_cnt_all (fun x hx => ?_)
  cases e : o x with
  | none => exact Or.inl rfl
  | some q => exact Or.inr ⟨q, h x hx q e, rfl⟩
end
section
/-! the tree as a set of keys: what each link must lead to -/
def pr_sub (B Le : Nat → Nat) (n m : Nat) : Prop := Le n ≤ Le m ∧ pr_ag (Le n) (B n) (B m)
def pr_ext (B Le : Nat → Nat) (n b m : Nat) : Prop := Le n < Le m ∧ pr_ag (Le n) (B n) (B m) ∧ pr_bit (Le n) (B m) = b
def pr_mn (B Le : Nat → Nat) (S : Nat → Prop) (o : Option Nat) : Prop := (o = none → ∀ m, ¬ S m) ∧ ∀ c, o = some c → S c ∧ ∀ m, S m → pr_sub B Le c m
def pr_SS (U : Nat → Bool) (B Le : Nat → Nat) (o : Option Nat) (b m : Nat) : Prop := U m = true ∧ ∀ k, o = some k → pr_ext B Le k b m
def pr_ct (C : Nat → Option Nat) (rt : Option Nat) (o : Option Nat) (b : Nat) : Option Nat :=
  match o with
  | none => rt
  | some k => C (2 * k + b)
def pr_T (U : Nat → Bool) (B Le : Nat → Nat) (C : Nat → Option Nat) (rt : Option Nat) : Prop :=
  (∀ n, U n = true → n < 64 ∧ Le n ≤ 16 ∧ B n < 65536 ∧ B n % 2 ^ (16 - Le n) = 0) ∧
  (∀ n m, U n = true → U m = true → Le n = Le m → B n = B m → n = m) ∧
  (∀ o b, (∀ k, o = some k → U k = true) → b < 2 → pr_mn B Le (pr_SS U B Le o b) (pr_ct C rt o b))
theorem pr_sub_refl (B Le : Nat → Nat) (n : Nat) : pr_sub B Le n n := ⟨Nat.le_refl _, rfl⟩
theorem pr_sub_trans {B Le : Nat → Nat} {n m k : Nat} (h : pr_sub B Le n m) (g : pr_sub B Le m k) : pr_sub B Le n k :=
  ⟨Nat.le_trans h.1 g.1, pr_ag_trans h.2 (pr_ag_mono h.1 g.2)⟩
theorem pr_cmp {B Le : Nat → Nat} {n m x : Nat} (hn : pr_ag (Le n) (B n) x) (hm : pr_ag (Le m) (B m) x) (hl : Le n ≤ Le m) : pr_sub B Le n m :=
  ⟨hl, pr_ag_trans hn (pr_ag_symm (pr_ag_mono hl hm))⟩
theorem pr_cov_sub {B Le : Nat → Nat} {n m x : Nat} (h : pr_sub B Le n m) (hm : pr_ag (Le m) (B m) x) : pr_ag (Le n) (B n) x := pr_ag_trans h.2 (pr_ag_mono h.1 hm)
theorem pr_ext_sub {B Le : Nat → Nat} {n b m : Nat} (h : pr_ext B Le n b m) : pr_sub B Le n m := ⟨Nat.le_of_lt h.1, h.2.1⟩
theorem pr_ext_trans {B Le : Nat → Nat} {n b m k : Nat} (h : pr_ext B Le n b m) (g : pr_sub B Le m k) (hk : Le m ≤ 16) : pr_ext B Le n b k :=
  ⟨Nat.lt_of_lt_of_le h.1 g.1, pr_ag_trans h.2.1 (pr_ag_mono (Nat.le_of_lt h.1) g.2), by rw [← pr_bit_ag g.2 h.1 hk]; exact h.2.2⟩
/-- n ends ahead of m, both lie ahead of k: n leads on to m by k's bit -/
theorem pr_ext_mid {B Le : Nat → Nat} {n b m k : Nat} (h : pr_ext B Le n b k) (g : pr_sub B Le m k) (hl : Le n < Le m) (hk : Le m ≤ 16) : pr_ext B Le n b m :=
  ⟨hl, pr_ag_trans h.2.1 (pr_ag_symm (pr_ag_mono (Nat.le_of_lt hl) g.2)), by rw [pr_bit_ag g.2 hl hk]; exact h.2.2⟩
section
variable {U : Nat → Bool} {B Le : Nat → Nat} {C : Nat → Option Nat} {rt : Option Nat}
theorem pr_T_le (T : pr_T U B Le C rt) {n : Nat} (h : U n = true) : Le n ≤ 16 := (T.1 n h).2.1
theorem pr_T_lt (T : pr_T U B Le C rt) {n : Nat} (h : U n = true) : n < 64 := (T.1 n h).1
theorem pr_sub_eq (T : pr_T U B Le C rt) {n m : Nat} (hn : U n = true) (hm : U m = true) (h : pr_sub B Le n m) (hl : Le m ≤ Le n) : n = m := by
  have e : Le n = Le m := Nat.le_antisymm h.1 hl
  refine T.2.1 n m hn hm e (pr_cut_inj (l := Le n) (T.1 n hn).2.2.2 ?_ h.2)
  rw [e]
  exact (T.1 m hm).2.2.2
theorem pr_sub_ext (T : pr_T U B Le C rt) {n m : Nat} (hn : U n = true) (hm : U m = true) (h : pr_sub B Le n m) (ne : n ≠ m) : pr_ext B Le n (pr_bit (Le n) (B m)) m :=
  ⟨Nat.lt_of_not_le (fun z => ne (pr_sub_eq T hn hm h z)), h.2, rfl⟩
theorem pr_child (T : pr_T U B Le C rt) {n b : Nat} (hn : U n = true) (hb : b < 2) : pr_mn B Le (fun m => U m = true ∧ pr_ext B Le n b m) (C (2 * n + b)) := by
  have h := T.2.2 (some n) b (fun k e => Option.some.inj e ▸ hn) hb
  refine ⟨fun e m hm => h.1 e m ⟨hm.1, fun k ek => Option.some.inj ek ▸ hm.2⟩, fun c e => ?_⟩
  have hc := h.2 c e
  exact ⟨⟨hc.1.1, hc.1.2 n rfl⟩, fun m hm => hc.2 m ⟨hm.1, fun k ek => Option.some.inj ek ▸ hm.2⟩⟩
theorem pr_root (T : pr_T U B Le C rt) : pr_mn B Le (fun m => U m = true) rt := by
  have h := T.2.2 none 0 (fun k e => (nomatch e)) (by omega)
  refine ⟨fun e m hm => h.1 e m ⟨hm, fun k ek => (nomatch ek)⟩, fun c e => ?_⟩
  have hc := h.2 c e
  exact ⟨hc.1.1, fun m hm => hc.2 m ⟨hm, fun k ek => (nomatch ek)⟩⟩
theorem pr_ct_inj (T : pr_T U B Le C rt) {o o' : Option Nat} {b b' m : Nat} (ho : ∀ k, o = some k → U k = true) (ho' : ∀ k, o' = some k → U k = true) (hb : b < 2) (hb' : b' < 2) (h : pr_ct C rt o b = some m) (h' : pr_ct C rt o' b' = some m) : o = o' ∧ (o = none ∨ b = b') := by
  have M := (T.2.2 o b ho hb).2 m h
  have M' := (T.2.2 o' b' ho' hb').2 m h'
  cases o with
  | none => cases o' with
    | none => exact ⟨rfl, Or.inl rfl⟩
    | some k' =>
      have h1 := M.2 k' ⟨ho' k' rfl, fun k e => (nomatch e)⟩
      have h2 := M'.1.2 k' rfl
      exact absurd h1.1 (Nat.not_le.mpr h2.1)
  | some k => cases o' with
    | none =>
      have h1 := M'.2 k ⟨ho k rfl, fun k e => (nomatch e)⟩
      have h2 := M.1.2 k rfl
      exact absurd h1.1 (Nat.not_le.mpr h2.1)
    | some k' =>
      have e1 := M.1.2 k rfl
      have e2 := M'.1.2 k' rfl
      have hk := ho k rfl
      have hk' := ho' k' rfl
      rcases Nat.lt_trichotomy (Le k) (Le k') with l | l | l
      · have := M.2 k' ⟨hk', fun j e => Option.some.inj e ▸ pr_ext_mid e1 (pr_ext_sub e2) l (pr_T_le T hk')⟩
        exact absurd this.1 (Nat.not_le.mpr e2.1)
      · have : k = k' := pr_sub_eq T hk hk' (pr_cmp e1.2.1 e2.2.1 (by omega)) (by omega)
        subst this
        exact ⟨rfl, Or.inr (by rw [← e1.2.2, ← e2.2.2])⟩
      · have := M'.2 k ⟨hk, fun j e => Option.some.inj e ▸ pr_ext_mid e2 (pr_ext_sub e1) l (pr_T_le T hk)⟩
        exact absurd this.1 (Nat.not_le.mpr e1.1)
theorem pr_mn_iff {S S' : Nat → Prop} {o : Option Nat} (h : ∀ m, S m ↔ S' m) (g : pr_mn B Le S o) : pr_mn B Le S' o :=
  ⟨fun e m hm => g.1 e m ((h m).mpr hm), fun c e => ⟨(h c).mp (g.2 c e).1, fun m hm => (g.2 c e).2 m ((h m).mpr hm)⟩⟩
theorem pr_T_congr {B' Le' : Nat → Nat} {C' : Nat → Option Nat} (T : pr_T U B Le C rt) (hB : ∀ m, U m = true → B' m = B m ∧ Le' m = Le m) (hC : ∀ m b, U m = true → b < 2 → C' (2 * m + b) = C (2 * m + b)) : pr_T U B' Le' C' rt := by
  have hs : ∀ n m, U n = true → U m = true → (pr_sub B' Le' n m ↔ pr_sub B Le n m) := by
    intro n m hn hm
    unfold pr_sub
    rw [(hB n hn).1, (hB n hn).2, (hB m hm).1, (hB m hm).2]
  have he : ∀ n b m, U n = true → U m = true → (pr_ext B' Le' n b m ↔ pr_ext B Le n b m) := by
    intro n b m hn hm
    unfold pr_ext
    rw [(hB n hn).1, (hB n hn).2, (hB m hm).1, (hB m hm).2]
  refine ⟨fun n hn => ?_, fun n m hn hm => ?_, fun o b ho hb => ?_⟩
  · rw [(hB n hn).1, (hB n hn).2]
    exact T.1 n hn
  · rw [(hB n hn).1, (hB n hn).2, (hB m hm).1, (hB m hm).2]
    exact T.2.1 n m hn hm
  · have M := T.2.2 o b ho hb
    have hS : ∀ m, pr_SS U B' Le' o b m ↔ pr_SS U B Le o b m := fun m =>
      ⟨fun z => ⟨z.1, fun k e => (he k b m (ho k e) z.1).mp (z.2 k e)⟩, fun z => ⟨z.1, fun k e => (he k b m (ho k e) z.1).mpr (z.2 k e)⟩⟩
    have hc : pr_ct C' rt o b = pr_ct C rt o b := by
      cases o with
      | none => rfl
      | some k => exact hC k b (ho k rfl) hb
    rw [hc]
    exact ⟨fun e m hm => M.1 e m ((hS m).mp hm), fun c e => ⟨(hS c).mpr (M.2 c e).1, fun m hm => (hs c m (M.2 c e).1.1 hm.1).mpr ((M.2 c e).2 m ((hS m).mp hm))⟩⟩
/-- a node comes in at a link: what hung there hangs below it -/
theorem pr_ins {U' : Nat → Bool} {C' : Nat → Option Nat} {rt' : Option Nat} {f : Nat} {up : Option Nat} {b0 : Nat} (T : pr_T U B Le C rt)
    (hU : ∀ m, U' m = true ↔ U m = true ∨ m = f)
    (kf : f < 64 ∧ Le f ≤ 16 ∧ B f < 65536 ∧ B f % 2 ^ (16 - Le f) = 0)
    (hup : ∀ k, up = some k → U k = true ∧ pr_ext B Le k b0 f) (hb0 : b0 < 2)
    (hne : ∀ m, U m = true → Le m = Le f → B m = B f → False)
    (hlow : ∀ m, pr_SS U B Le up b0 m → pr_sub B Le f m)
    (hslot : pr_ct C' rt' up b0 = some f)
    (hoth : ∀ o b, (∀ k, o = some k → U k = true) → b < 2 → (o ≠ up ∨ (o ≠ none ∧ b ≠ b0)) → pr_ct C' rt' o b = pr_ct C rt o b)
    (hch : ∀ b, b < 2 → pr_mn B Le (fun m => U m = true ∧ pr_ext B Le f b m) (C' (2 * f + b))) : pr_T U' B Le C' rt' := by
  refine ⟨fun n hn => ?_, fun n m hn hm hl hb => ?_, fun o b ho hb => ?_⟩
  · rcases (hU n).mp hn with h | h
    · exact T.1 n h
    · rw [h]
      exact kf
  · rcases (hU n).mp hn with h | h
    · rcases (hU m).mp hm with g | g
      · exact T.2.1 n m h g hl hb
      · subst g
        exact (hne n h hl hb).elim
    · rcases (hU m).mp hm with g | g
      · subst h
        exact (hne m g hl.symm hb.symm).elim
      · rw [h, g]
  · by_cases hof : o = some f
    · subst hof
      refine pr_mn_iff (fun m => ⟨fun z => ⟨(hU m).mpr (Or.inl z.1), fun k e => Option.some.inj e ▸ z.2⟩, fun z => ?_⟩) (hch b hb)
      have hz := z.2 f rfl
      rcases (hU m).mp z.1 with h | h
      · exact ⟨h, hz⟩
      · rw [h] at hz
        exact absurd hz.1 (Nat.lt_irrefl _)
    · have hoU : ∀ k, o = some k → U k = true := by
        intro k e
        rcases (hU k).mp (ho k e) with h | h
        · exact h
        · rw [h] at e
          exact absurd e hof
      have M := T.2.2 o b hoU hb
      by_cases same : o = up ∧ (o = none ∨ b = b0)
      · have hc : pr_ct C' rt' o b = some f := by
          rcases same.2 with e | e
          · have e2 := same.1
            rw [e] at e2
            rw [← e2] at hslot
            rw [e]
            exact hslot
          · rw [same.1, e]
            exact hslot
        have hsb : ∀ m, pr_SS U B Le o b m → pr_SS U B Le up b0 m := by
          intro m hm
          rw [← same.1]
          refine ⟨hm.1, fun k e => ?_⟩
          rcases same.2 with e' | e'
          · rw [e'] at e
            exact (nomatch e)
          · rw [← e']
            exact hm.2 k e
        rw [hc]
        refine ⟨fun e => (nomatch e), fun c e => ?_⟩
        have e := Option.some.inj e
        subst e
        refine ⟨⟨(hU f).mpr (Or.inr rfl), fun k e => ?_⟩, fun m hm => ?_⟩
        · rcases same.2 with e' | e'
          · rw [e'] at e
            exact (nomatch e)
          · rw [e']
            exact (hup k (by rw [← same.1]; exact e)).2
        · rcases (hU m).mp hm.1 with h | h
          · exact hlow m (hsb m ⟨h, hm.2⟩)
          · rw [h]
            exact pr_sub_refl B Le f
      · have hc : pr_ct C' rt' o b = pr_ct C rt o b := by
          refine hoth o b hoU hb ?_
          by_cases e : o = up
          · refine Or.inr ⟨fun e' => same ⟨e, Or.inl e'⟩, fun e' => same ⟨e, Or.inr e'⟩⟩
          · exact Or.inl e
        rw [hc]
        by_cases hfin : ∀ k, o = some k → pr_ext B Le k b f
        · have claim : ∃ w, pr_SS U B Le o b w ∧ pr_sub B Le w f := by
            cases up with
            | none =>
              cases o with
              | none => exact absurd ⟨rfl, Or.inl rfl⟩ same
              | some n =>
                have h1 := hlow n ⟨hoU n rfl, fun k e => (nomatch e)⟩
                exact absurd h1.1 (Nat.not_le.mpr (hfin n rfl).1)
            | some u =>
              obtain ⟨hu, hx⟩ := hup u rfl
              cases o with
              | none => exact ⟨u, ⟨hu, fun k e => (nomatch e)⟩, pr_ext_sub hx⟩
              | some n =>
                have hn := hoU n rfl
                have hxn := hfin n rfl
                rcases Nat.lt_trichotomy (Le n) (Le u) with l | l | l
                · exact ⟨u, ⟨hu, fun j e => Option.some.inj e ▸ pr_ext_mid hxn (pr_ext_sub hx) l (pr_T_le T hu)⟩, pr_ext_sub hx⟩
                · have e : n = u := pr_sub_eq T hn hu (pr_cmp hxn.2.1 hx.2.1 (by omega)) (by omega)
                  subst e
                  exact absurd ⟨rfl, Or.inr (by rw [← hxn.2.2, ← hx.2.2])⟩ same
                · have h1 := hlow n ⟨hn, fun j e => Option.some.inj e ▸ pr_ext_mid hx (pr_ext_sub hxn) l (pr_T_le T hn)⟩
                  exact absurd h1.1 (Nat.not_le.mpr hxn.1)
          obtain ⟨w, hw, hwf⟩ := claim
          refine ⟨fun e => absurd hw (M.1 e w), fun c e => ?_⟩
          have hc := M.2 c e
          refine ⟨⟨(hU c).mpr (Or.inl hc.1.1), hc.1.2⟩, fun m hm => ?_⟩
          rcases (hU m).mp hm.1 with h | h
          · exact hc.2 m ⟨h, hm.2⟩
          · rw [h]
            exact pr_sub_trans (hc.2 w hw) hwf
        · refine pr_mn_iff (fun m => ⟨fun z => ⟨(hU m).mpr (Or.inl z.1), z.2⟩, fun z => ?_⟩) M
          rcases (hU m).mp z.1 with h | h
          · exact ⟨h, z.2⟩
          · rw [h] at z
            exact absurd z.2 hfin
/-- a node with at most one child goes: its link takes the child -/
theorem pr_rem {U' : Nat → Bool} {C' : Nat → Option Nat} {rt' : Option Nat} {n : Nat} {up : Option Nat} {b0 b1 : Nat} {rest : Option Nat} (T : pr_T U B Le C rt) (hn : U n = true)
    (hU : ∀ m, U' m = true ↔ U m = true ∧ m ≠ n)
    (hup : ∀ k, up = some k → U k = true) (hb0 : b0 < 2) (hct : pr_ct C rt up b0 = some n)
    (hb1 : b1 < 2) (h1 : C (2 * n + b1) = rest) (h2 : C (2 * n + (1 - b1)) = none)
    (hslot : pr_ct C' rt' up b0 = rest)
    (hoth : ∀ o b, (∀ k, o = some k → U' k = true) → b < 2 → (o ≠ up ∨ (o ≠ none ∧ b ≠ b0)) → pr_ct C' rt' o b = pr_ct C rt o b) : pr_T U' B Le C' rt' := by
  refine ⟨fun m hm => T.1 m ((hU m).mp hm).1, fun k m hk hm => T.2.1 k m ((hU k).mp hk).1 ((hU m).mp hm).1, fun o b ho hb => ?_⟩
  have hoU : ∀ k, o = some k → U k = true := fun k e => ((hU k).mp (ho k e)).1
  have M := T.2.2 o b hoU hb
  have Mn := (T.2.2 up b0 hup hb0).2 n hct
  have D1 := pr_child T hn hb1
  have D2 := pr_child T hn (show 1 - b1 < 2 by omega)
  rw [h1] at D1
  rw [h2] at D2
  have below : ∀ m, U m = true → pr_sub B Le n m → m ≠ n → pr_ext B Le n b1 m := by
    intro m hm hs ne
    have hx := pr_sub_ext T hn hm hs (fun e => ne e.symm)
    have hb := pr_bit_lt (Le n) (B m)
    by_cases e : pr_bit (Le n) (B m) = b1
    · rw [e] at hx
      exact hx
    · rw [show pr_bit (Le n) (B m) = 1 - b1 by omega] at hx
      exact absurd ⟨hm, hx⟩ (D2.1 rfl m)
  by_cases same : o = up ∧ (o = none ∨ b = b0)
  · have hc : pr_ct C' rt' o b = rest := by
      rcases same.2 with e | e
      · have e2 := same.1
        rw [e] at e2
        rw [← e2] at hslot
        rw [e]
        exact hslot
      · rw [same.1, e]
        exact hslot
    have hsb : ∀ m, pr_SS U B Le o b m ↔ pr_SS U B Le up b0 m := by
      intro m
      rw [← same.1]
      rcases same.2 with e' | e'
      · rw [e']
        exact ⟨fun z => ⟨z.1, fun k e => (nomatch e)⟩, fun z => ⟨z.1, fun k e => (nomatch e)⟩⟩
      · rw [e']
    rw [hc]
    refine ⟨fun e m hm => ?_, fun c e => ?_⟩
    · obtain ⟨hm1, hm2⟩ := (hU m).mp hm.1
      have := below m hm1 (Mn.2 m ((hsb m).mp ⟨hm1, hm.2⟩)) hm2
      exact D1.1 e m ⟨hm1, this⟩
    · have hc := D1.2 c e
      have hcn : c ≠ n := by
        intro e
        rw [e] at hc
        exact absurd hc.1.2.1 (Nat.lt_irrefl _)
      have hcs : pr_SS U B Le up b0 c := ⟨hc.1.1, fun k e => pr_ext_trans (Mn.1.2 k e) (pr_ext_sub hc.1.2) (pr_T_le T hn)⟩
      refine ⟨⟨(hU c).mpr ⟨hc.1.1, hcn⟩, ((hsb c).mpr hcs).2⟩, fun m hm => ?_⟩
      obtain ⟨hm1, hm2⟩ := (hU m).mp hm.1
      exact hc.2 m ⟨hm1, below m hm1 (Mn.2 m ((hsb m).mp ⟨hm1, hm.2⟩)) hm2⟩
  · have hc : pr_ct C' rt' o b = pr_ct C rt o b := by
      refine hoth o b ho hb ?_
      by_cases e : o = up
      · refine Or.inr ⟨fun e' => same ⟨e, Or.inl e'⟩, fun e' => same ⟨e, Or.inr e'⟩⟩
      · exact Or.inl e
    rw [hc]
    refine ⟨fun e m hm => M.1 e m ⟨((hU m).mp hm.1).1, hm.2⟩, fun c e => ?_⟩
    have hc := M.2 c e
    have hcn : c ≠ n := by
      intro z
      rw [z] at e
      exact same (pr_ct_inj T hoU hup hb hb0 e hct)
    exact ⟨⟨(hU c).mpr ⟨hc.1.1, hcn⟩, hc.1.2⟩, fun m hm => hc.2 m ⟨((hU m).mp hm.1).1, hm.2⟩⟩
/-- forks have two children: they are fewer than the rest -/
theorem pr_forks {Pe : Nat → Option Nat} {r : Nat} (T : pr_T U B Le C rt) (F : ∀ n b, U n = true → Pe n = none → b < 2 → C (2 * n + b) ≠ none) (hr : rt = some r) :
    2 * pr_cnt (fun k => U k = true ∧ Pe k = none) 64 + 1 ≤ pr_cnt (fun k => U k = true) 64 := by
  have hR := (pr_root T).2 r hr
  have h0 : pr_cnt (fun k => U k = true) 64 = pr_cnt (fun k => U k = true ∧ k ≠ r) 64 + 1 :=
    pr_cnt_add (pr_T_lt T hR.1) (fun z => z.2 rfl) hR.1 (fun k _ hk => ⟨fun z => ⟨z, hk⟩, fun z => z.1⟩)
  rw [h0, ← pr_cnt_two (fun k => U k = true ∧ Pe k = none) 64]
  refine Nat.add_le_add_right (pr_cnt_inj (fun j => (C j).getD 0) ?_ ?_) 1
  · intro j _ hj
    have ej : 2 * (j / 2) + j % 2 = j := by omega
    have hF := F (j / 2) (j % 2) hj.1 hj.2 (by omega)
    have hM := pr_child T hj.1 (show j % 2 < 2 by omega)
    rw [ej] at hF hM
    cases e : C j with
    | none => exact absurd e hF
    | some c =>
      have hc := hM.2 c e
      show c < 64 ∧ U c = true ∧ c ≠ r
      refine ⟨pr_T_lt T hc.1.1, hc.1.1, fun z => ?_⟩
      rw [z] at hc
      exact absurd (hR.2 (j / 2) hj.1).1 (Nat.not_le.mpr hc.1.2.1)
  · intro i j _ _ hi hj e
    have ei : 2 * (i / 2) + i % 2 = i := by omega
    have ej : 2 * (j / 2) + j % 2 = j := by omega
    have hFi := F (i / 2) (i % 2) hi.1 hi.2 (by omega)
    have hFj := F (j / 2) (j % 2) hj.1 hj.2 (by omega)
    rw [ei] at hFi
    rw [ej] at hFj
    cases e1 : C i with
    | none => exact absurd e1 hFi
    | some c => cases e2 : C j with
      | none => exact absurd e2 hFj
      | some d =>
        have hcd : c = d := by
          have e' : (C i).getD 0 = (C j).getD 0 := e
          rw [e1, e2] at e'
          exact e'
        have := pr_ct_inj T (o := some (i / 2)) (o' := some (j / 2)) (b := i % 2) (b' := j % 2) (m := c) (fun k e => Option.some.inj e ▸ hi.1) (fun k e => Option.some.inj e ▸ hj.1) (by omega) (by omega) (by show C (2 * (i / 2) + i % 2) = some c; rw [ei, e1]) (by show C (2 * (j / 2) + j % 2) = some c; rw [ej, e2, hcd])
        have h3 := Option.some.inj this.1
        rcases this.2 with z | z
        · exact (nomatch z)
        · omega
end
end
section
/-! the entries: length, bits, peer; what the questions answer by them -/
def pr_E (U : Nat → Bool) (B Le : Nat → Nat) (Pe : Nat → Option Nat) (l p q : Nat) : Prop := ∃ n, U n = true ∧ Le n = l ∧ B n = p ∧ Pe n = some q
def pr_EF (E : Nat → Nat → Nat → Prop) : Prop := (∀ l p q, E l p q → l ≤ 16 ∧ p < 65536 ∧ p % 2 ^ (16 - l) = 0 ∧ q < 8) ∧ ∀ l p q q', E l p q → E l p q' → q = q'
def pr_lk (E : Nat → Nat → Nat → Prop) (x : Nat) (o : Option (Nat × Nat)) : Prop :=
  (o = none → ∀ l p q, E l p q → ¬ pr_ag l p x) ∧ ∀ r, o = some r → (∃ p, E r.1 p r.2 ∧ pr_ag r.1 p x) ∧ ∀ l p q, E l p q → pr_ag l p x → l ≤ r.1
noncomputable def pr_own (E : Nat → Nat → Nat → Prop) (x : Nat) : Option (Nat × Nat) := Classical.epsilon (fun o => pr_lk E x o)
noncomputable def pr_pe (E : Nat → Nat → Nat → Prop) (x : Nat) : Option Nat := (pr_own E x).map Prod.snd
noncomputable def pr_le (E : Nat → Nat → Nat → Prop) (x : Nat) : Option Nat := (pr_own E x).map Prod.fst
theorem pr_lk_own {E : Nat → Nat → Nat → Prop} {x : Nat} {o : Option (Nat × Nat)} (F : pr_EF E) (h : pr_lk E x o) : pr_own E x = o := by
  have h' : pr_lk E x (pr_own E x) := Classical.epsilon_spec (p := fun o => pr_lk E x o) ⟨o, h⟩
  generalize pr_own E x = o' at h'
  cases o with
  | none => cases o' with
    | none => rfl
    | some r =>
      obtain ⟨⟨p, hp, ha⟩, _⟩ := h'.2 r rfl
      exact absurd ha (h.1 rfl _ _ _ hp)
  | some r => cases o' with
    | none =>
      obtain ⟨⟨p, hp, ha⟩, _⟩ := h.2 r rfl
      exact absurd ha (h'.1 rfl _ _ _ hp)
    | some r' =>
      obtain ⟨⟨p, hp, ha⟩, hm⟩ := h.2 r rfl
      obtain ⟨⟨p', hp', ha'⟩, hm'⟩ := h'.2 r' rfl
      obtain ⟨l, q⟩ := r
      obtain ⟨l', q'⟩ := r'
      have e1 : l = l' := Nat.le_antisymm (hm' _ _ _ hp ha) (hm _ _ _ hp' ha')
      subst e1
      have e2 : p = p' := pr_cut_inj (F.1 _ _ _ hp).2.2.1 (F.1 _ _ _ hp').2.2.1 (pr_ag_trans ha (pr_ag_symm ha'))
      subst e2
      have e3 : q' = q := F.2 _ _ _ _ hp' hp
      rw [e3]
def pr_bst (V : Nat → Prop) (B Le : Nat → Nat) (Pe : Nat → Option Nat) (x : Nat) (o : Option Nat) : Prop :=
  (o = none → ∀ m, V m → Pe m ≠ none → ¬ pr_ag (Le m) (B m) x) ∧ ∀ k, o = some k → V k ∧ Pe k ≠ none ∧ pr_ag (Le k) (B k) x ∧ ∀ m, V m → Pe m ≠ none → pr_ag (Le m) (B m) x → Le m ≤ Le k
def pr_res (Le : Nat → Nat) (Pe : Nat → Option Nat) (o : Option Nat) : Option (Nat × Nat) := o.bind (fun k => (Pe k).map (fun q => (Le k, q)))
theorem pr_ne_none {α : Type} {o : Option α} (h : o ≠ none) : ∃ q, o = some q := by
  cases o with
  | none => exact absurd rfl h
  | some q => exact ⟨q, rfl⟩
theorem pr_res_some {Le : Nat → Nat} {Pe : Nat → Option Nat} {k q : Nat} (h : Pe k = some q) : pr_res Le Pe (some k) = some (Le k, q) := by
  show (Pe k).map (fun q => (Le k, q)) = some (Le k, q)
  rw [h]
  rfl
section
variable {U : Nat → Bool} {B Le : Nat → Nat} {C : Nat → Option Nat} {rt : Option Nat} {Pe : Nat → Option Nat}
theorem pr_E_EF (T : pr_T U B Le C rt) (P : ∀ n q, U n = true → Pe n = some q → q < 8) : pr_EF (pr_E U B Le Pe) := by
  refine ⟨fun l p q h => ?_, fun l p q q' h h' => ?_⟩
  · obtain ⟨n, hn, hl, hp, hq⟩ := h
    have := T.1 n hn
    rw [hl, hp] at this
    exact ⟨this.2.1, this.2.2.1, this.2.2.2, P n q hn hq⟩
  · obtain ⟨n, hn, hl, hp, hq⟩ := h
    obtain ⟨m, hm, hl', hp', hq'⟩ := h'
    have e : n = m := T.2.1 n m hn hm (by rw [hl, hl']) (by rw [hp, hp'])
    subst e
    rw [hq] at hq'
    exact Option.some.inj hq'
theorem pr_bst_lk {x : Nat} {o : Option Nat} (h : pr_bst (fun m => U m = true) B Le Pe x o) : pr_lk (pr_E U B Le Pe) x (pr_res Le Pe o) := by
  cases o with
  | none =>
    refine ⟨fun _ l p q hE ha => ?_, fun r e => (nomatch e)⟩
    obtain ⟨n, hn, hl, hp, hq⟩ := hE
    refine h.1 rfl n hn (by rw [hq]; exact fun z => (nomatch z)) ?_
    rw [hl, hp]
    exact ha
  | some k =>
    obtain ⟨hk, hne, ha, hmax⟩ := h.2 k rfl
    obtain ⟨q, hq⟩ := pr_ne_none hne
    rw [pr_res_some hq]
    refine ⟨fun e => (nomatch e), fun r e => ?_⟩
    have e := Option.some.inj e
    subst e
    refine ⟨⟨B k, ⟨k, hk, rfl, rfl, hq⟩, ha⟩, fun l p q hE hag => ?_⟩
    obtain ⟨n, hn, hl, hp, hq⟩ := hE
    subst hl
    subst hp
    exact hmax n hn (by rw [hq]; exact fun z => (nomatch z)) hag
theorem pr_bst_own {x : Nat} {o : Option Nat} (T : pr_T U B Le C rt) (P : ∀ n q, U n = true → Pe n = some q → q < 8) (h : pr_bst (fun m => U m = true) B Le Pe x o) : pr_own (pr_E U B Le Pe) x = pr_res Le Pe o :=
  pr_lk_own (pr_E_EF T P) (pr_bst_lk h)
theorem pr_bst_pe {x : Nat} {o : Option Nat} (T : pr_T U B Le C rt) (P : ∀ n q, U n = true → Pe n = some q → q < 8) (h : pr_bst (fun m => U m = true) B Le Pe x o) : pr_pe (pr_E U B Le Pe) x = o.bind Pe := by
  unfold pr_pe
  rw [pr_bst_own T P h]
  cases o with
  | none => rfl
  | some k =>
    obtain ⟨q, hq⟩ := pr_ne_none (h.2 k rfl).2.1
    rw [pr_res_some hq]
    exact hq.symm
theorem pr_bst_le {x : Nat} {o : Option Nat} (T : pr_T U B Le C rt) (P : ∀ n q, U n = true → Pe n = some q → q < 8) (h : pr_bst (fun m => U m = true) B Le Pe x o) : pr_le (pr_E U B Le Pe) x = o.map Le := by
  unfold pr_le
  rw [pr_bst_own T P h]
  cases o with
  | none => rfl
  | some k =>
    obtain ⟨q, hq⟩ := pr_ne_none (h.2 k rfl).2.1
    rw [pr_res_some hq]
    rfl
end
/-- entries counted by their keys -/
noncomputable def pr_kc (E : Nat → Nat → Nat → Prop) (R : Nat → Nat → Nat → Prop) : Nat := pr_cnt (fun j => ∃ q, E (j / 65536) (j % 65536) q ∧ R (j / 65536) (j % 65536) q) 1114112
theorem pr_kc_eq {U : Nat → Bool} {B Le : Nat → Nat} {C : Nat → Option Nat} {rt : Option Nat} {Pe : Nat → Option Nat} (T : pr_T U B Le C rt) (R : Nat → Nat → Nat → Prop) :
    pr_cnt (fun k => U k = true ∧ ∃ q, Pe k = some q ∧ R (Le k) (B k) q) 64 = pr_kc (pr_E U B Le Pe) R := by
  unfold pr_kc
  apply Nat.le_antisymm
  · refine pr_cnt_inj (fun k => Le k * 65536 + B k) (fun k _ hk => ?_) (fun i j _ _ hi hj e => ?_)
    · obtain ⟨hu, q, hq, hr⟩ := hk
      have t := T.1 k hu
      have e1 : (Le k * 65536 + B k) / 65536 = Le k := by omega
      have e2 : (Le k * 65536 + B k) % 65536 = B k := by omega
      refine ⟨by show Le k * 65536 + B k < 1114112; omega, q, ?_⟩
      show pr_E U B Le Pe ((Le k * 65536 + B k) / 65536) ((Le k * 65536 + B k) % 65536) q ∧ R ((Le k * 65536 + B k) / 65536) ((Le k * 65536 + B k) % 65536) q
      rw [e1, e2]
      exact ⟨⟨k, hu, rfl, rfl, hq⟩, hr⟩
    · have e : Le i * 65536 + B i = Le j * 65536 + B j := e
      have ti := T.1 i hi.1
      have tj := T.1 j hj.1
      exact T.2.1 i j hi.1 hj.1 (by omega) (by omega)
  · have spec : ∀ j, (∃ q, pr_E U B Le Pe (j / 65536) (j % 65536) q ∧ R (j / 65536) (j % 65536) q) → U (Classical.epsilon (fun k => U k = true ∧ Le k = j / 65536 ∧ B k = j % 65536)) = true ∧ Le (Classical.epsilon (fun k => U k = true ∧ Le k = j / 65536 ∧ B k = j % 65536)) = j / 65536 ∧ B (Classical.epsilon (fun k => U k = true ∧ Le k = j / 65536 ∧ B k = j % 65536)) = j % 65536 := by
      intro j hj
      obtain ⟨q, ⟨n, hn, hl, hp, _⟩, _⟩ := hj
      exact Classical.epsilon_spec (p := fun k => U k = true ∧ Le k = j / 65536 ∧ B k = j % 65536) ⟨n, hn, hl, hp⟩
    refine pr_cnt_inj (fun j => Classical.epsilon (fun k => U k = true ∧ Le k = j / 65536 ∧ B k = j % 65536)) (fun j _ hj => ?_) (fun i j _ _ hi hj e => ?_)
    · have s := spec j hj
      obtain ⟨q, ⟨n, hn, hl, hp, hq⟩, hr⟩ := hj
      show Classical.epsilon (fun k => U k = true ∧ Le k = j / 65536 ∧ B k = j % 65536) < 64 ∧ _
      generalize Classical.epsilon (fun k => U k = true ∧ Le k = j / 65536 ∧ B k = j % 65536) = k at s ⊢
      have e : k = n := T.2.1 k n s.1 hn (by rw [s.2.1, hl]) (by rw [s.2.2, hp])
      subst e
      refine ⟨(T.1 k hn).1, hn, q, hq, ?_⟩
      rw [hl, hp]
      exact hr
    · have si := spec i hi
      have sj := spec j hj
      have e : Classical.epsilon (fun k => U k = true ∧ Le k = i / 65536 ∧ B k = i % 65536) = Classical.epsilon (fun k => U k = true ∧ Le k = j / 65536 ∧ B k = j % 65536) := e
      rw [e] at si
      have h1 : i / 65536 = j / 65536 := by rw [← si.2.1, sj.2.1]
      have h2 : i % 65536 = j % 65536 := by rw [← si.2.2, sj.2.2]
      omega
/-- of no use -/
def pr_usl (E : Nat → Nat → Nat → Prop) (l p q : Nat) : Prop :=
  (∀ x, x < 65536 → pr_ag l p x → ∀ r, pr_own E x = some r → r.1 ≠ l) ∨
  (∃ l' p', E l' p' q ∧ l' < l ∧ pr_ag l' p' p ∧ ∀ l'' p'' q'', E l'' p'' q'' → l'' < l → pr_ag l'' p'' p → l'' ≤ l')
end
section
/-! the arrays of the state as pictures -/
def pr_bA (U : Nat → Bool) : Nat → Int32 := fun k => if U k = true then 1 else 0
def pr_nA (B : Nat → Nat) : Nat → Int32 := fun k => nI (B k)
def pr_oA (P : Nat → Option Nat) : Nat → Int32 := fun k => pr_oI (P k)
def pr_up {α : Type} (f : Nat → α) (k : Nat) (v : α) : Nat → α := fun j => if j = k then v else f j
theorem pr_up_s {α : Type} {f : Nat → α} {k : Nat} {v : α} : pr_up f k v k = v := if_pos rfl
theorem pr_up_n {α : Type} {f : Nat → α} {k j : Nat} {v : α} (h : j ≠ k) : pr_up f k v j = f j := if_neg h
theorem pr_upd_n (B : Nat → Nat) (k v : Nat) : upd (pr_nA B) k (nI v) = pr_nA (pr_up B k v) := by
  funext j
  unfold upd pr_nA pr_up
  split <;> rfl
theorem pr_upd_o (P : Nat → Option Nat) (k : Nat) (v : Option Nat) : upd (pr_oA P) k (pr_oI v) = pr_oA (pr_up P k v) := by
  funext j
  unfold upd pr_oA pr_up
  split <;> rfl
theorem pr_upd_t (U : Nat → Bool) (k : Nat) : upd (pr_bA U) k 1 = pr_bA (pr_up U k true) := by
  funext j
  unfold upd pr_bA pr_up
  by_cases h : j = k
  · rw [if_pos h, if_pos h]
    rfl
  · rw [if_neg h, if_neg h]
theorem pr_upd_f (U : Nat → Bool) (k : Nat) : upd (pr_bA U) k 0 = pr_bA (pr_up U k false) := by
  funext j
  unfold upd pr_bA pr_up
  by_cases h : j = k
  · rw [if_pos h, if_pos h]
    rfl
  · rw [if_neg h, if_neg h]
theorem pr_ix0 (n : Nat) : (2 : Int32) * nI n = nI (2 * n) := pk_mul 2 n
theorem pr_ix (n b : Nat) : (2 : Int32) * nI n + nI b = nI (2 * n + b) := by rw [pr_ix0, nI_add]
theorem pr_ix1 (n : Nat) : (2 : Int32) * nI n + 1 = nI (2 * n + 1) := by rw [pr_ix0, nI_1]
theorem pr_rd (C : Nat → Option Nat) {n b : Nat} (hn : n < 64) (hb : b < 2) : pr_oA C ((2 : Int32) * nI n + nI b).toNatClampNeg = pr_oI (C (2 * n + b)) := by
  rw [pr_ix, nI_clamp (by omega)]
  rfl
theorem pr_w_bit {post : Int32 → Prop} {x l : Nat} (hx : x < 65536) (hl : l < 16) (h : post (nI (pr_bit l x))) : wpX_bitAt post () (nI x) (nI l) := by
  unfold wpX_bitAt
  rw [pr_bitI hx hl]
  exact h
theorem pr_w_cut {post : Int32 → Prop} {x l : Nat} (hx : x < 65536) (hl : l ≤ 16) (h : post (nI (pr_cut l x))) : wpX_cut post () (nI x) (nI l) := by
  unfold wpX_cut
  rw [pr_cutI hx hl]
  exact h
theorem pr_w_covers {post : Int32 → Prop} {h1 h2 h3 h4 h5 : Int32} {a1 a4 a5 a6 a7 a8 a9 : Nat → Int32} {B Le : Nat → Nat} {n x : Nat} (hn : n < 64) (hl : Le n ≤ 16) (hx : x < 65536) (hB : B n < 65536) (hc : B n % 2 ^ (16 - Le n) = 0)
    (ht : pr_ag (Le n) (B n) x → post 1) (hf : ¬ pr_ag (Le n) (B n) x → post 0) : wpX_covers post (h1, h2, h3, h4, h5, a1, pr_nA B, pr_nA Le, a4, a5, a6, a7, a8, a9) (nI n) (nI x) := by
  unfold wpX_covers
  dsimp only
  refine ⟨pk_in n 64 hn, ?_⟩
  rw [nI_clamp (show n < 2 ^ 31 by omega)]
  refine pr_w_cut hx hl ?_
  refine ⟨pk_in n 64 hn, ?_⟩
  have hcl := pr_cut_le (Le n) x
  exact pk_eq (pr_cut (Le n) x) (B n) (fun e => ht ((pr_cut_iff hc).mp e)) (fun e => hf (fun g => e ((pr_cut_iff hc).mpr g))) rfl rfl (by omega) (by omega)
section
variable {U : Nat → Bool} {B Le : Nat → Nat} {C : Nat → Option Nat} {rt : Option Nat} {Pe : Nat → Option Nat}
theorem pr_w_settling {post : Int32 → Prop} {h1 h3 h4 h5 : Int32} {a1 a6 a7 a8 a9 : Nat → Int32} (T : pr_T U B Le C rt) (P : ∀ n q, U n = true → Pe n = some q → q < 8) {x : Nat} (hx : x < 65536)
    (H : ∀ o, pr_bst (fun m => U m = true) B Le Pe x o → post (pr_oI o)) : wpX_settling post (h1, pr_oI rt, h3, h4, h5, a1, pr_nA B, pr_nA Le, pr_oA Pe, pr_oA C, a6, a7, a8, a9) (nI x) := by
  have key : ∀ n step (best cur : Option Nat), 18 < step + n →
      (∀ w, best = some w → U w = true ∧ Pe w ≠ none ∧ pr_ag (Le w) (B w) x) →
      (∀ m, U m = true → pr_ag (Le m) (B m) x → (Pe m ≠ none → ∃ w, best = some w ∧ Le m ≤ Le w) ∨ ∃ c, cur = some c ∧ pr_sub B Le c m) →
      (∀ c, cur = some c → U c = true ∧ step ≤ Le c ∧ ∀ w, best = some w → Le w < Le c) → step ≤ 17 →
      wX_settling_10 post (nI x) h1 (pr_oI rt) h3 h4 h5 a1 (pr_nA B) (pr_nA Le) (pr_oA Pe) (pr_oA C) a6 a7 a8 a9 n (pr_oI best) (pr_oI cur) (nI step) := by
    intro n
    induction n with
    | zero =>
      intro step best cur hn _ _ _ h17
      omega
    | succ n ih =>
      intro step best cur hn J1 J2 J3 J4
      have fin : (∀ c, cur = some c → ¬ pr_ag (Le c) (B c) x) → post (pr_oI best) := by
        intro hcur
        refine H best ⟨fun e m hm hp ha => ?_, fun k e => ⟨(J1 k e).1, (J1 k e).2.1, (J1 k e).2.2, fun m hm hp ha => ?_⟩⟩
        · rcases J2 m hm ha with h | ⟨c, hc, hs⟩
          · obtain ⟨w, hw, _⟩ := h hp
            rw [e] at hw
            exact nomatch hw
          · exact hcur c hc (pr_cov_sub hs ha)
        · rcases J2 m hm ha with h | ⟨c, hc, hs⟩
          · obtain ⟨w, hw, hle⟩ := h hp
            rw [e] at hw
            rw [Option.some.inj hw]
            exact hle
          · exact absurd (pr_cov_sub hs ha) (hcur c hc)
      refine pk_le 18 step (fun z => absurd z (by omega)) (fun z => ?_)
      refine pr_oI_neg (o := cur) (fun k e => by have := pr_T_lt T (J3 k e).1; omega) (fun e => fin (fun c hc => by rw [e] at hc; exact nomatch hc)) (fun c e => ?_)
      subst e
      obtain ⟨hc, hst, hbw⟩ := J3 c rfl
      have tc := T.1 c hc
      have step44 : ∀ best', (∀ w, best' = some w → U w = true ∧ Pe w ≠ none ∧ pr_ag (Le w) (B w) x) → (∀ m, U m = true → pr_ag (Le m) (B m) x → (Pe m ≠ none → ∃ w, best' = some w ∧ Le m ≤ Le w) ∨ (pr_sub B Le c m ∧ m ≠ c)) → (∀ w, best' = some w → Le w ≤ Le c) → pr_ag (Le c) (B c) x → wX_settling_44 post (wX_settling_10 post (nI x) h1 (pr_oI rt) h3 h4 h5 a1 (pr_nA B) (pr_nA Le) (pr_oA Pe) (pr_oA C) a6 a7 a8 a9 n) (nI x) (nI c) (nI step) (pr_oI best') h1 (pr_oI rt) h3 h4 h5 a1 (pr_nA B) (pr_nA Le) (pr_oA Pe) (pr_oA C) a6 a7 a8 a9 := by
        intro best' K1 K2 K3 hag
        unfold wX_settling_44
        refine ⟨pk_in c 64 tc.1, ?_⟩
        rw [nI_clamp (show c < 2 ^ 31 by omega)]
        refine pk_eq (Le c) 16 (fun e16 => nm_r (nI_1 step) (ih (step + 1) best' none (by omega) K1 (fun m hm ha => ?_) (fun c' e => nomatch e) (by omega))) (fun n16 => ⟨pk_in c 64 tc.1, ?_⟩) rfl rfl (by omega) (by omega)
        · rcases K2 m hm ha with h | ⟨h, ne⟩
          · exact Or.inl h
          · exact absurd (pr_sub_eq T hc hm h (by rw [e16]; exact pr_T_le T hm)) (fun e => ne e.symm)
        · have hb := pr_bit_lt (Le c) x
          refine pr_w_bit hx (show Le c < 16 by omega) ⟨pk_in (2 * c + pr_bit (Le c) x) 128 (by omega) (pr_ix c _), ?_⟩
          refine nm_r (pr_rd C tc.1 hb) (nm_r (nI_1 step) (ih (step + 1) best' _ (by omega) K1 (fun m hm ha => ?_) (fun c' e => ?_) (by omega)))
          · rcases K2 m hm ha with h | ⟨h, ne⟩
            · exact Or.inl h
            · refine Or.inr ?_
              have hx2 := pr_sub_ext T hc hm h (fun e => ne e.symm)
              rw [pr_bit_ag ha hx2.1 (pr_T_le T hm)] at hx2
              have M := pr_child T hc hb
              cases e : C (2 * c + pr_bit (Le c) x) with
              | none => exact absurd ⟨hm, hx2⟩ (M.1 e m)
              | some d => exact ⟨d, rfl, (M.2 d e).2 m ⟨hm, hx2⟩⟩
          · have M := (pr_child T hc hb).2 c' e
            have := M.1.2.1
            exact ⟨M.1.1, by omega, fun w hw => Nat.lt_of_le_of_lt (K3 w hw) this⟩
      refine pr_w_covers tc.1 tc.2.1 hx tc.2.2.1 tc.2.2.2 (fun hag => br_f (by decide) ?_) (fun hag => br_t rfl (fin (fun d hd => by rw [← Option.some.inj hd]; exact hag)))
      refine ⟨pk_in c 64 tc.1, ?_⟩
      have ecl : (pr_oI (some c)).toNatClampNeg = c := nI_clamp (show c < 2 ^ 31 by omega)
      rw [ecl]
      refine pr_oI_neg (o := Pe c) (fun q e => by have := P c q hc e; omega) (fun e => step44 best J1 (fun m hm ha => ?_) (fun w hw => Nat.le_of_lt (hbw w hw)) hag) (fun q e => step44 (some c) (fun w hw => ?_) (fun m hm ha => ?_) (fun w hw => ?_) hag)
      · rcases J2 m hm ha with h | ⟨d, hd, hs⟩
        · exact Or.inl h
        · rw [← Option.some.inj hd] at hs
          by_cases em : m = c
          · exact Or.inl (fun hp => absurd (by rw [em]; exact e) hp)
          · exact Or.inr ⟨hs, em⟩
      · rw [← Option.some.inj hw, e]
        exact ⟨hc, (fun z => nomatch z), hag⟩
      · rcases J2 m hm ha with h | ⟨d, hd, hs⟩
        · refine Or.inl (fun hp => ⟨c, rfl, ?_⟩)
          obtain ⟨w, hw, hle⟩ := h hp
          exact Nat.le_trans hle (Nat.le_of_lt (hbw w hw))
        · rw [← Option.some.inj hd] at hs
          by_cases em : m = c
          · exact Or.inl (fun hp => ⟨c, rfl, by rw [em]; exact Nat.le_refl _⟩)
          · exact Or.inr ⟨hs, em⟩
      · rw [Option.some.inj hw]
        exact Nat.le_refl _
  have R := pr_root T
  refine ⟨19, key 19 0 none rt (by omega) (fun w e => nomatch e) (fun m hm ha => Or.inr ?_) (fun c e => ⟨(R.2 c e).1, Nat.zero_le _, fun w hw => nomatch hw⟩) (by omega)⟩
  cases e : rt with
  | none => exact absurd hm (R.1 e m)
  | some c => exact ⟨c, rfl, (R.2 c e).2 m hm⟩
theorem pr_w_owner {post : Int32 → Prop} {h1 h3 h4 h5 : Int32} {a1 a6 a7 a8 a9 : Nat → Int32} (T : pr_T U B Le C rt) (P : ∀ n q, U n = true → Pe n = some q → q < 8) {x : Nat} (hx : x < 65536) {y : Int32} (hy : y &&& 65535 = nI x)
    (H : post (pr_oI (pr_pe (pr_E U B Le Pe) x))) : wpX_owner post (h1, pr_oI rt, h3, h4, h5, a1, pr_nA B, pr_nA Le, pr_oA Pe, pr_oA C, a6, a7, a8, a9) y := by
  unfold wpX_owner
  dsimp only
  rw [hy]
  refine pr_w_settling T P hx (fun o ho => ?_)
  rw [pr_bst_pe T P ho] at H
  refine pr_oI_pos (fun k e => by have := pr_T_lt T (ho.2 k e).1; omega) (fun k e => ?_) (fun e => ?_)
  · have hk := pr_T_lt T (ho.2 k e).1
    subst e
    refine ⟨pk_in k 64 hk, ?_⟩
    rw [show (pr_oI (some k)).toNatClampNeg = k from nI_clamp (by omega)]
    exact H
  · subst e
    exact H
theorem pr_w_length {post : Int32 → Prop} {h1 h3 h4 h5 : Int32} {a1 a6 a7 a8 a9 : Nat → Int32} (T : pr_T U B Le C rt) (P : ∀ n q, U n = true → Pe n = some q → q < 8) {x : Nat} (hx : x < 65536) {y : Int32} (hy : y &&& 65535 = nI x)
    (H : post (pr_oI (pr_le (pr_E U B Le Pe) x))) : wpX_length post (h1, pr_oI rt, h3, h4, h5, a1, pr_nA B, pr_nA Le, pr_oA Pe, pr_oA C, a6, a7, a8, a9) y := by
  unfold wpX_length
  dsimp only
  rw [hy]
  refine pr_w_settling T P hx (fun o ho => ?_)
  rw [pr_bst_le T P ho] at H
  refine pr_oI_pos (fun k e => by have := pr_T_lt T (ho.2 k e).1; omega) (fun k e => ?_) (fun e => ?_)
  · have hk := pr_T_lt T (ho.2 k e).1
    subst e
    refine ⟨pk_in k 64 hk, ?_⟩
    rw [show (pr_oI (some k)).toNatClampNeg = k from nI_clamp (by omega)]
    exact H
  · subst e
    exact H
end
end
section
/-! find, lead, release, newNode -/
def pr_sb (Le : Nat → Nat) (p : Nat) (o : Option Nat) : Nat :=
  match o with
  | none => 0
  | some k => pr_bit (Le k) p
theorem pr_sb_lt (Le : Nat → Nat) (p : Nat) (o : Option Nat) : pr_sb Le p o < 2 := by
  cases o with
  | none => exact Nat.zero_lt_two
  | some k => exact pr_bit_lt _ _
def pr_fnd (U : Nat → Bool) (B Le : Nat → Nat) (C : Nat → Option Nat) (rt : Option Nat) (p len : Nat) (r up fu : Option Nat) : Prop :=
  (∀ k, up = some k → U k = true ∧ Le k < len ∧ pr_ag (Le k) (B k) p) ∧
  (∀ k, fu = some k → U k = true ∧ Le k < len ∧ pr_ag (Le k) (B k) p) ∧
  (up ≠ none → pr_ct C rt fu (pr_sb Le p fu) = up) ∧
  (∀ n, r = some n → pr_ct C rt up (pr_sb Le p up) = some n ∧ U n = true ∧ Le n = len ∧ B n = p) ∧
  (r = none → (∀ m, U m = true → Le m = len → B m = p → False) ∧ ∀ c, pr_ct C rt up (pr_sb Le p up) = some c → len < Le c ∨ ¬ pr_ag (Le c) (B c) p)
section
variable {U : Nat → Bool} {B Le : Nat → Nat} {C : Nat → Option Nat} {rt : Option Nat} {Pe : Nat → Option Nat}
theorem pr_w_find {post : Int32 → St1 → Prop} {h1 h3 h4 h5 : Int32} {a1 a4 a6 a7 a8 a9 : Nat → Int32} (T : pr_T U B Le C rt) {p len : Nat} (hp : p < 65536) (hl : len ≤ 16) (hc : p % 2 ^ (16 - len) = 0)
    (H : ∀ r up fu, pr_fnd U B Le C rt p len r up fu → post (pr_oI r) (h1, pr_oI rt, h3, pr_oI up, pr_oI fu, a1, pr_nA B, pr_nA Le, a4, pr_oA C, a6, a7, a8, a9)) :
    wpX_find post (h1, pr_oI rt, h3, h4, h5, a1, pr_nA B, pr_nA Le, a4, pr_oA C, a6, a7, a8, a9) (nI p) (nI len) := by
  have key : ∀ n step (cur up fu : Option Nat), 18 < step + n →
      (∀ k, up = some k → U k = true ∧ Le k < len ∧ pr_ag (Le k) (B k) p) →
      (∀ k, fu = some k → U k = true ∧ Le k < len ∧ pr_ag (Le k) (B k) p) →
      (up ≠ none → pr_ct C rt fu (pr_sb Le p fu) = up) → pr_ct C rt up (pr_sb Le p up) = cur →
      (∀ c, cur = some c → step ≤ Le c) → step ≤ 17 →
      wX_find_18 post (nI p) (nI len) h1 (pr_oI rt) h3 a1 (pr_nA B) (pr_nA Le) a4 (pr_oA C) a6 a7 a8 a9 n (pr_oI cur) (nI step) (pr_oI up) (pr_oI fu) := by
    intro n
    induction n with
    | zero =>
      intro step cur up fu hn _ _ _ _ _ h17
      omega
    | succ n ih =>
      intro step cur up fu hn K1 K2 K3 K4 K5 K6
      have M := T.2.2 up (pr_sb Le p up) (fun k e => (K1 k e).1) (pr_sb_lt Le p up)
      have inS : ∀ m, U m = true → Le m = len → B m = p → pr_SS U B Le up (pr_sb Le p up) m := by
        intro m hm hlm hbm
        refine ⟨hm, fun k e => ?_⟩
        have := K1 k e
        subst e
        refine ⟨by omega, ?_, ?_⟩
        · rw [hbm]
          exact this.2.2
        · rw [hbm]
          rfl
      rw [K4] at M
      have fin : (∀ c, cur = some c → len < Le c ∨ ¬ pr_ag (Le c) (B c) p) → post (-1) (h1, pr_oI rt, h3, pr_oI up, pr_oI fu, a1, pr_nA B, pr_nA Le, a4, pr_oA C, a6, a7, a8, a9) := by
        intro hcur
        refine H none up fu ⟨K1, K2, K3, (fun n e => nomatch e), fun _ => ⟨fun m hm hlm hbm => ?_, fun c e => hcur c (by rw [← K4]; exact e)⟩⟩
        have hS := inS m hm hlm hbm
        cases e : cur with
        | none => exact M.1 e m hS
        | some c =>
          have hs := (M.2 c e).2 m hS
          rcases hcur c e with h | h
          · have := hs.1
            omega
          · refine h ?_
            rw [← hbm]
            exact hs.2
      refine pk_le 18 step (fun z => absurd z (by omega)) (fun z => ?_)
      refine pr_oI_neg (o := cur) (fun k e => by have := pr_T_lt T (M.2 k e).1.1; omega) (fun e => fin (fun c hc => by rw [e] at hc; exact nomatch hc)) (fun c e => ?_)
      have hcU := (M.2 c e).1.1
      have tc := T.1 c hcU
      have ecl : (pr_oI cur).toNatClampNeg = c := by
        rw [e]
        exact nI_clamp (show c < 2 ^ 31 by omega)
      have ecn : pr_oI cur = nI c := by
        rw [e]
        rfl
      refine ⟨pk_in c 64 tc.1 ecn, ?_⟩
      rw [ecl]
      refine pk_lt len (Le c) (fun hlt => fin (fun d hd => Or.inl (by rw [e] at hd; rw [← Option.some.inj hd]; exact hlt))) (fun hle => ?_) rfl rfl (by omega) (by omega)
      rw [ecn]
      refine pr_w_covers tc.1 tc.2.1 hp tc.2.2.1 tc.2.2.2 (fun hag => br_f (by decide) ?_) (fun hag => br_t rfl (fin (fun d hd => Or.inr (by rw [e] at hd; rw [← Option.some.inj hd]; exact hag))))
      refine ⟨pk_in c 64 tc.1, ?_⟩
      refine pk_eq (Le c) len (fun elen => ?_) (fun nlen => ?_) rfl rfl (by omega) (by omega)
      · refine H (some c) up fu ⟨K1, K2, K3, (fun n en => ?_), fun e => nomatch e⟩
        rw [← Option.some.inj en]
        refine ⟨by rw [K4, e], hcU, elen, ?_⟩
        rw [← elen] at hc
        exact pr_cut_inj tc.2.2.2 hc hag
      · refine ⟨pk_in c 64 tc.1, ?_⟩
        have hb := pr_bit_lt (Le c) p
        refine pr_w_bit hp (show Le c < 16 by omega) ⟨pk_in (2 * c + pr_bit (Le c) p) 128 (by omega) (pr_ix c _), ?_⟩
        refine nm_r (pr_rd C tc.1 hb) (nm_r (nI_1 step) ?_)
        have hst := K5 c e
        refine ih (step + 1) (C (2 * c + pr_bit (Le c) p)) (some c) up (by omega) (fun k ek => ?_) K1 (fun _ => ?_) rfl (fun d ed => ?_) (by omega)
        · rw [← Option.some.inj ek]
          exact ⟨hcU, by omega, hag⟩
        · rw [K4, e]
        · have := ((pr_child T hcU hb).2 d ed).1.2.1
          omega
  exact ⟨19, key 19 0 rt none none (by omega) (fun w e => nomatch e) (fun w e => nomatch e) (fun z => absurd rfl z) rfl (fun c e => Nat.zero_le _) (by omega)⟩
end
/-- a link is set -/
def pr_lC (C : Nat → Option Nat) (o : Option Nat) (b : Nat) (t : Option Nat) : Nat → Option Nat :=
  match o with
  | none => C
  | some k => pr_up C (2 * k + b) t
def pr_lR (rt : Option Nat) (o : Option Nat) (t : Option Nat) : Option Nat :=
  match o with
  | none => t
  | some _ => rt
theorem pr_ct_s {C : Nat → Option Nat} {rt o t : Option Nat} {b : Nat} : pr_ct (pr_lC C o b t) (pr_lR rt o t) o b = t := by
  cases o with
  | none => rfl
  | some k => exact pr_up_s
theorem pr_ct_n {C : Nat → Option Nat} {rt o t o' : Option Nat} {b b' : Nat} (hb : b < 2) (hb' : b' < 2) (h : o' ≠ o ∨ (o' ≠ none ∧ b' ≠ b)) : pr_ct (pr_lC C o b t) (pr_lR rt o t) o' b' = pr_ct C rt o' b' := by
  cases o with
  | none => cases o' with
    | none =>
      rcases h with h | h
      · exact absurd rfl h
      · exact absurd rfl h.1
    | some k => rfl
  | some k => cases o' with
    | none => rfl
    | some k' =>
      refine pr_up_n (fun e => ?_)
      have e1 : k' = k := by omega
      rcases h with h | h
      · exact h (by rw [e1])
      · exact h.2 (by omega)
theorem pr_w_lead {post : St1 → Prop} {h1 h3 h4 h5 : Int32} {a1 a2 a4 a6 a7 a8 a9 : Nat → Int32} {Le : Nat → Nat} {C : Nat → Option Nat} {rt o t : Option Nat} {p : Nat} {y : Int32} (ho : ∀ k, o = some k → k < 64 ∧ Le k < 16) (hp : p < 65536)
    (H : post (h1, pr_oI (pr_lR rt o t), h3, h4, h5, a1, a2, pr_nA Le, a4, pr_oA (pr_lC C o (pr_sb Le p o) t), a6, a7, a8, a9)) (hy : y = pr_oI t := by rfl) :
    wpX_lead post (h1, pr_oI rt, h3, h4, h5, a1, a2, pr_nA Le, a4, pr_oA C, a6, a7, a8, a9) (pr_oI o) (nI p) y := by
  subst hy
  unfold wpX_lead
  dsimp only
  refine pr_oI_pos (fun k e => by have := (ho k e).1; omega) (fun k e => ?_) (fun e => ?_)
  · obtain ⟨hk, hl⟩ := ho k e
    subst e
    refine ⟨pk_in k 64 hk, ?_⟩
    rw [show pr_oI (some k) = nI k from rfl, nI_clamp (show k < 2 ^ 31 by omega)]
    have hb := pr_bit_lt (Le k) p
    refine pr_w_bit hp hl ⟨pk_in (2 * k + pr_bit (Le k) p) 128 (by omega) (pr_ix k _), nm_r ?_ H⟩
    rw [pr_ix, nI_clamp (by omega)]
    exact pr_upd_o _ _ _
  · subst e
    exact H
theorem pr_w_release {post : St1 → Prop} {h1 h2 h4 h5 : Int32} {a2 a3 a4 a6 a7 a8 a9 : Nat → Int32} {U : Nat → Bool} {C : Nat → Option Nat} {fr : Option Nat} {n : Nat} (hn : n < 64)
    (H : post (h1, h2, pr_oI (some n), h4, h5, pr_bA (pr_up U n false), a2, a3, a4, pr_oA (pr_up C (2 * n) fr), a6, a7, a8, a9)) :
    wpX_release post (h1, h2, pr_oI fr, h4, h5, pr_bA U, a2, a3, a4, pr_oA C, a6, a7, a8, a9) (nI n) := by
  unfold wpX_release
  dsimp only
  refine ⟨pk_in n 64 hn, nm_r ?_ ⟨pk_in (2 * n) 128 (by omega) (pr_ix0 n), nm_r ?_ H⟩⟩
  · rw [nI_clamp (by omega)]
    exact pr_upd_f _ _
  · rw [pr_ix0, nI_clamp (by omega)]
    exact pr_upd_o _ _ _
theorem pr_w_new {post : Int32 → St1 → Prop} {h1 h2 h4 h5 : Int32} {a6 a7 a8 a9 : Nat → Int32} {U : Nat → Bool} {B Le : Nat → Nat} {Pe C : Nat → Option Nat} {f p len : Nat} {q : Option Nat} {y : Int32} (hn : f < 64)
    (H : post (nI f) (h1, h2, pr_oI (C (2 * f)), h4, h5, pr_bA (pr_up U f true), pr_nA (pr_up B f p), pr_nA (pr_up Le f len), pr_oA (pr_up Pe f q), pr_oA (pr_up (pr_up C (2 * f) none) (2 * f + 1) none), a6, a7, a8, a9)) (hy : y = pr_oI q := by rfl) :
    wpX_newNode post (h1, h2, pr_oI (some f), h4, h5, pr_bA U, pr_nA B, pr_nA Le, pr_oA Pe, pr_oA C, a6, a7, a8, a9) (nI p) (nI len) y := by
  subst hy
  unfold wpX_newNode
  dsimp only
  rw [show pr_oI (some f) = nI f from rfl, nI_clamp (show f < 2 ^ 31 by omega), pr_ix0, nI_clamp (show 2 * f < 2 ^ 31 by omega), nI_1, nI_clamp (show 2 * f + 1 < 2 ^ 31 by omega)]
  have i1 := vp_in_nI hn (show 64 < 2 ^ 31 by omega)
  refine ⟨vp_in_nI (show 2 * f < 128 by omega) (by omega), nm_e ⟨i1, nm_r (pr_upd_t _ _) ⟨i1, nm_r (pr_upd_n _ _ _) ⟨i1, nm_r (pr_upd_n _ _ _) ⟨i1, nm_r (pr_upd_o _ _ _) ⟨vp_in_nI (show 2 * f < 128 by omega) (by omega), nm_r (pr_upd_o _ _ none) ⟨vp_in_nI (show 2 * f + 1 < 128 by omega) (by omega), nm_r (pr_upd_o _ _ none) H⟩⟩⟩⟩⟩⟩⟩
end
section
/-! the free nodes; what always holds; takeOut -/
def pr_fl (C : Nat → Option Nat) : List Nat → Option Nat → Prop
  | [], o => o = none
  | n :: t, o => o = some n ∧ pr_fl C t (C (2 * n))
def pr_FL (U : Nat → Bool) (C : Nat → Option Nat) (fr : Option Nat) : Prop :=
  ∃ fl : List Nat, pr_fl C fl fr ∧ fl.Nodup ∧ (∀ n, n ∈ fl → n < 64 ∧ U n = false) ∧ fl.length + pr_cnt (fun k => U k = true) 64 = 64
theorem pr_fl_congr {C C' : Nat → Option Nat} {fl : List Nat} : ∀ {o : Option Nat}, (∀ n, n ∈ fl → C' (2 * n) = C (2 * n)) → pr_fl C fl o → pr_fl C' fl o := by
  induction fl with
  | nil =>
    intro o _ h
    exact h
  | cons n t ih =>
    intro o hC h
    refine ⟨h.1, ?_⟩
    rw [hC n (List.mem_cons_self)]
    exact ih (fun m hm => hC m (List.mem_cons_of_mem _ hm)) h.2
theorem pr_FL_C {U : Nat → Bool} {C C' : Nat → Option Nat} {fr : Option Nat} (h : pr_FL U C fr) (hC : ∀ n, n < 64 → U n = false → C' (2 * n) = C (2 * n)) : pr_FL U C' fr := by
  obtain ⟨fl, h1, h2, h3, h4⟩ := h
  exact ⟨fl, pr_fl_congr (fun n hn => hC n (h3 n hn).1 (h3 n hn).2) h1, h2, h3, h4⟩
theorem pr_FL_rel {U : Nat → Bool} {C : Nat → Option Nat} {fr : Option Nat} {n : Nat} (h : pr_FL U C fr) (hn : n < 64) (hU : U n = true) : pr_FL (pr_up U n false) (pr_up C (2 * n) fr) (some n) := by
  obtain ⟨fl, h1, h2, h3, h4⟩ := h
  have hne : ∀ m, m ∈ fl → m ≠ n := by
    intro m hm e
    have := (h3 m hm).2
    rw [e, hU] at this
    exact nomatch this
  refine ⟨n :: fl, ⟨rfl, ?_⟩, ?_, fun m hm => ?_, ?_⟩
  · rw [pr_up_s]
    refine pr_fl_congr (fun m hm => pr_up_n (fun e => hne m hm (by omega))) h1
  · exact List.nodup_cons.mpr ⟨fun hm => hne n hm rfl, h2⟩
  · rcases List.mem_cons.mp hm with e | e
    · rw [e]
      exact ⟨hn, pr_up_s⟩
    · refine ⟨(h3 m e).1, ?_⟩
      rw [pr_up_n (hne m e)]
      exact (h3 m e).2
  · have := pr_cnt_add (P := fun k => pr_up U n false k = true) (Q := fun k => U k = true) (n := 64) hn (by show ¬ pr_up U n false n = true; rw [pr_up_s]; exact fun z => nomatch z) hU (fun k _ hk => by rw [pr_up_n hk])
    rw [List.length_cons]
    omega
theorem pr_FL_new {U : Nat → Bool} {C : Nat → Option Nat} {fr : Option Nat} (h : pr_FL U C fr) (hc : pr_cnt (fun k => U k = true) 64 < 64) :
    ∃ f, fr = some f ∧ f < 64 ∧ U f = false ∧ (∀ C', (∀ n, n < 64 → U n = false → n ≠ f → C' (2 * n) = C (2 * n)) → pr_FL (pr_up U f true) C' (C (2 * f))) ∧ pr_cnt (fun k => pr_up U f true k = true) 64 = pr_cnt (fun k => U k = true) 64 + 1 := by
  obtain ⟨fl, h1, h2, h3, h4⟩ := h
  cases fl with
  | nil =>
    rw [List.length_nil] at h4
    omega
  | cons f t =>
    have hf := h3 f List.mem_cons_self
    have hcn : pr_cnt (fun k => pr_up U f true k = true) 64 = pr_cnt (fun k => U k = true) 64 + 1 :=
      pr_cnt_add (P := fun k => U k = true) (Q := fun k => pr_up U f true k = true) hf.1 (by show ¬ U f = true; rw [hf.2]; exact fun z => nomatch z) pr_up_s (fun k _ hk => by rw [pr_up_n hk])
    refine ⟨f, h1.1, hf.1, hf.2, fun C' hC => ⟨t, ?_, (List.nodup_cons.mp h2).2, fun m hm => ?_, ?_⟩, hcn⟩
    · refine pr_fl_congr (fun m hm => hC m (h3 m (List.mem_cons_of_mem _ hm)).1 (h3 m (List.mem_cons_of_mem _ hm)).2 (fun e => ?_)) h1.2
      rw [e] at hm
      exact (List.nodup_cons.mp h2).1 hm
    · refine ⟨(h3 m (List.mem_cons_of_mem _ hm)).1, ?_⟩
      rw [pr_up_n (k := f) (j := m) (fun e => (List.nodup_cons.mp h2).1 (by rw [← e]; exact hm))]
      exact (h3 m (List.mem_cons_of_mem _ hm)).2
    · rw [hcn]
      rw [List.length_cons] at h4
      omega
def pr_G (U : Nat → Bool) (B Le : Nat → Nat) (Pe C : Nat → Option Nat) (rt : Option Nat) (hd : Nat) (fr : Option Nat) : Prop :=
  pr_T U B Le C rt ∧ (∀ n q, U n = true → Pe n = some q → q < 8) ∧ (∀ n b, U n = true → Pe n = none → b < 2 → C (2 * n + b) ≠ none) ∧
  pr_cnt (fun k => U k = true ∧ Pe k ≠ none) 64 = hd ∧ hd ≤ 32 ∧ pr_FL U C fr
theorem pr_ct_up {C : Nat → Option Nat} {rt o v : Option Nat} {n b b' : Nat} (ho : ∀ k, o = some k → k ≠ n) (hb : b < 2) (hb' : b' < 2) : pr_ct (pr_up C (2 * n + b') v) rt o b = pr_ct C rt o b := by
  cases o with
  | none => rfl
  | some k =>
    have := ho k rfl
    exact pr_up_n (by omega)
section
variable {U : Nat → Bool} {B Le : Nat → Nat} {C : Nat → Option Nat} {rt : Option Nat} {Pe : Nat → Option Nat}
theorem pr_rem2 {fr up rest : Option Nat} {n b0 b1 : Nat} (T : pr_T U B Le C rt) (L : pr_FL U C fr) (hn : U n = true) (hup : ∀ k, up = some k → U k = true ∧ k ≠ n) (hb0 : b0 < 2) (hct : pr_ct C rt up b0 = some n) (hb1 : b1 < 2) (h1 : C (2 * n + b1) = rest) (h2 : C (2 * n + (1 - b1)) = none) :
    pr_T (pr_up U n false) B Le (pr_up (pr_lC C up b0 rest) (2 * n) fr) (pr_lR rt up rest) ∧ pr_FL (pr_up U n false) (pr_up (pr_lC C up b0 rest) (2 * n) fr) (some n) ∧
    (∀ o b, (∀ k, o = some k → k ≠ n) → b < 2 → (o ≠ up ∨ (o ≠ none ∧ b ≠ b0)) → pr_ct (pr_up (pr_lC C up b0 rest) (2 * n) fr) (pr_lR rt up rest) o b = pr_ct C rt o b) ∧
    pr_ct (pr_up (pr_lC C up b0 rest) (2 * n) fr) (pr_lR rt up rest) up b0 = rest := by
  have c1 : ∀ o b, (∀ k, o = some k → k ≠ n) → b < 2 → (o ≠ up ∨ (o ≠ none ∧ b ≠ b0)) → pr_ct (pr_up (pr_lC C up b0 rest) (2 * n) fr) (pr_lR rt up rest) o b = pr_ct C rt o b := by
    intro o b ho hb hne
    have := pr_ct_up (C := pr_lC C up b0 rest) (rt := pr_lR rt up rest) (v := fr) (b' := 0) ho hb (by omega)
    exact this.trans (pr_ct_n hb0 hb hne)
  have c2 : pr_ct (pr_up (pr_lC C up b0 rest) (2 * n) fr) (pr_lR rt up rest) up b0 = rest := by
    have := pr_ct_up (C := pr_lC C up b0 rest) (rt := pr_lR rt up rest) (v := fr) (b' := 0) (o := up) (n := n) (fun k e => (hup k e).2) hb0 (by omega)
    exact this.trans pr_ct_s
  have hU : ∀ m, pr_up U n false m = true ↔ U m = true ∧ m ≠ n := by
    intro m
    by_cases e : m = n
    · rw [e, pr_up_s]
      exact ⟨(fun z => nomatch z), fun z => absurd rfl z.2⟩
    · rw [pr_up_n e]
      exact ⟨fun z => ⟨z, e⟩, fun z => z.1⟩
  refine ⟨pr_rem T hn hU (fun k e => (hup k e).1) hb0 hct hb1 h1 h2 c2 (fun o b ho hb hne => c1 o b (fun k e => ((hU k).mp (ho k e)).2) hb hne), pr_FL_rel (pr_FL_C L (fun m hm hu => ?_)) (pr_T_lt T hn) hn, c1, c2⟩
  cases up with
  | none => rfl
  | some k =>
    refine pr_up_n (fun e => ?_)
    have ek : m = k := by omega
    rw [ek, (hup k rfl).1] at hu
    exact nomatch hu
theorem pr_G_out {fr fr' rt' : Option Nat} {U' : Nat → Bool} {C' : Nat → Option Nat} {h n : Nat} (g : pr_G U B Le Pe C rt (h + 1) fr) (hn : U n = true) (hPn : Pe n ≠ none) (T' : pr_T U' B Le C' rt') (F' : ∀ m b, U' m = true → m ≠ n → Pe m = none → b < 2 → C' (2 * m + b) ≠ none) (Fn : ∀ b, U' n = true → b < 2 → C' (2 * n + b) ≠ none) (L' : pr_FL U' C' fr')
    (hU : ∀ m, (U' m = true ∧ pr_up Pe n none m ≠ none) ↔ (U m = true ∧ Pe m ≠ none ∧ m ≠ n)) : pr_G U' B Le (pr_up Pe n none) C' rt' h fr' := by
  obtain ⟨T, P, F, hc, h32, L⟩ := g
  refine ⟨T', fun m q hm hq => ?_, fun m b hm hp hb => ?_, ?_, by omega, L'⟩
  · have := (hU m).mp ⟨hm, by rw [hq]; exact fun z => nomatch z⟩
    rw [pr_up_n this.2.2] at hq
    exact P m q this.1 hq
  · by_cases e : m = n
    · subst e
      exact Fn b hm hb
    · rw [pr_up_n e] at hp
      exact F' m b hm e hp hb
  · have := pr_cnt_add (P := fun k => U' k = true ∧ pr_up Pe n none k ≠ none) (Q := fun k => U k = true ∧ Pe k ≠ none) (n := 64) (pr_T_lt T hn) (fun z => ((hU n).mp z).2.2 rfl) ⟨hn, hPn⟩ (fun k _ hk => ⟨fun z => (hU k).mpr ⟨z.1, z.2, hk⟩, fun z => ⟨((hU k).mp z).1, ((hU k).mp z).2.1⟩⟩)
    omega
end
theorem pr_rd0 (C : Nat → Option Nat) {n : Nat} (hn : n < 64) : pr_oA C ((2 : Int32) * nI n).toNatClampNeg = pr_oI (C (2 * n)) := by
  rw [pr_ix0, nI_clamp (by omega)]
  rfl
theorem pr_rd1 (C : Nat → Option Nat) {n : Nat} (hn : n < 64) : pr_oA C ((2 : Int32) * nI n + 1).toNatClampNeg = pr_oI (C (2 * n + 1)) := by
  rw [pr_ix1, nI_clamp (by omega)]
  rfl
section
variable {U : Nat → Bool} {B Le : Nat → Nat} {C : Nat → Option Nat} {rt : Option Nat} {Pe : Nat → Option Nat}
theorem pr_w_takeOut {post : St1 → Prop} {a6 a7 a8 a9 : Nat → Int32} {h n p len : Nat} {up fu fr : Option Nat} (g : pr_G U B Le Pe C rt (h + 1) fr) (hf : pr_fnd U B Le C rt p len (some n) up fu) (hl : len ≤ 16) (hPn : Pe n ≠ none)
    (H : ∀ U' C' rt' fr', pr_G U' B Le (pr_up Pe n none) C' rt' h fr' → (∀ m, (U' m = true ∧ pr_up Pe n none m ≠ none) ↔ (U m = true ∧ Pe m ≠ none ∧ m ≠ n)) → post (nI h, pr_oI rt', pr_oI fr', pr_oI up, pr_oI fu, pr_bA U', pr_nA B, pr_nA Le, pr_oA (pr_up Pe n none), pr_oA C', a6, a7, a8, a9)) :
    wpX_takeOut post (nI (h + 1), pr_oI rt, pr_oI fr, pr_oI up, pr_oI fu, pr_bA U, pr_nA B, pr_nA Le, pr_oA Pe, pr_oA C, a6, a7, a8, a9) (nI n) := by
  obtain ⟨T, P, F, hc, h32, L⟩ := g
  obtain ⟨f1, f2, f3, f4, _⟩ := hf
  obtain ⟨hct, hn, hln, hbn⟩ := f4 n rfl
  have tn := T.1 n hn
  have hupn : ∀ k, up = some k → U k = true ∧ k ≠ n := fun k e => ⟨(f1 k e).1, fun z => by have := (f1 k e).2.1; rw [z] at this; omega⟩
  have k55 : ∀ b1 rest, b1 < 2 → C (2 * n + b1) = rest → C (2 * n + (1 - b1)) = none → wX_takeOut_55 post (nI n) (pr_oI rest) (nI h) (pr_oI rt) (pr_oI fr) (pr_oI up) (pr_oI fu) (pr_bA U) (pr_nA B) (pr_nA Le) (pr_oA (pr_up Pe n none)) (pr_oA C) a6 a7 a8 a9 := by
    intro b1 rest hb1 h1 h2
    have hb0 := pr_sb_lt Le p up
    obtain ⟨T1, L1, c1, c2⟩ := pr_rem2 T L hn hupn hb0 hct hb1 h1 h2
    have hrest : ∀ k, rest = some k → k < 64 := by
      intro k e
      rw [e] at h1
      exact pr_T_lt T ((pr_child T hn hb1).2 k h1).1.1
    have hU1 : ∀ m, (pr_up U n false m = true ∧ pr_up Pe n none m ≠ none) ↔ (U m = true ∧ Pe m ≠ none ∧ m ≠ n) := by
      intro m
      by_cases e : m = n
      · rw [e, pr_up_s]
        exact ⟨(fun z => nomatch z.1), fun z => absurd rfl z.2.2⟩
      · rw [pr_up_n e, pr_up_n e]
        exact ⟨fun z => ⟨z.1, z.2, e⟩, fun z => ⟨z.1, z.2.1⟩⟩
    have hUo : ∀ m, pr_up U n false m = true → U m = true := by
      intro m hm
      by_cases e : m = n
      · rw [e, pr_up_s] at hm
        exact nomatch hm
      · rw [pr_up_n e] at hm
        exact hm
    have hUn : pr_up U n false n ≠ true := by
      rw [pr_up_s]
      exact fun z => nomatch z
    -- it ends here
    have done1 : (∀ k, up = some k → rest = none → Pe k ≠ none) → post (nI h, pr_oI (pr_lR rt up rest), pr_oI (some n), pr_oI up, pr_oI fu, pr_bA (pr_up U n false), pr_nA B, pr_nA Le, pr_oA (pr_up Pe n none), pr_oA (pr_up (pr_lC C up (pr_sb Le p up) rest) (2 * n) fr), a6, a7, a8, a9) := by
      intro hx
      refine H _ _ _ _ (pr_G_out ⟨T, P, F, hc, h32, L⟩ hn hPn T1 (fun m b hm ne hp hb => ?_) (fun b hm hb => absurd hm hUn) L1 hU1) hU1
      by_cases same : up = some m ∧ b = pr_sb Le p up
      · have e : pr_ct (pr_up (pr_lC C up (pr_sb Le p up) rest) (2 * n) fr) (pr_lR rt up rest) (some m) b = rest := by
          rw [same.2]
          rw [same.1] at c2 ⊢
          exact c2
        intro z
        have z2 : rest = none := e.symm.trans z
        exact hx m same.1 z2 hp
      · have e := c1 (some m) b (fun k ek => by rw [← Option.some.inj ek]; exact ne) hb (by
          by_cases em : up = some m
          · exact Or.inr ⟨(fun z => nomatch z), fun eb => same ⟨em, eb⟩⟩
          · exact Or.inl (fun z => em z.symm))
        intro z
        exact F m b (hUo m hm) hp hb (e.symm.trans z)
    unfold wX_takeOut_55
    refine ⟨pk_in n 64 tn.1, ?_⟩
    rw [nI_clamp (show n < 2 ^ 31 by omega)]
    refine pr_w_lead (p := B n) (t := rest) (fun k e => ⟨pr_T_lt T (f1 k e).1, by have := (f1 k e).2.1; omega⟩) tn.2.2.1 ?_
    dsimp only
    rw [hbn]
    refine pr_w_release tn.1 ?_
    dsimp only
    refine pr_oI_pos (fun k e => by have := hrest k e; omega) (fun k e => done1 (fun j ej ez => by rw [e] at ez; exact nomatch ez)) (fun er => ?_)
    refine pr_oI_neg (fun k e => by have := pr_T_lt T (f1 k e).1; omega) (fun e => done1 (fun j ej ez => by rw [e] at ej; exact nomatch ej)) (fun k ek => ?_)
    have hkU := (f1 k ek).1
    have tk := T.1 k hkU
    have ekn : pr_oI up = nI k := by
      rw [ek]
      rfl
    have kne := (hupn k ek).2
    refine ⟨pk_in k 64 tk.1 ekn, ?_⟩
    rw [ekn, nI_clamp (show k < 2 ^ 31 by omega)]
    rw [show pr_oA (pr_up Pe n none) k = pr_oI (Pe k) by unfold pr_oA; rw [pr_up_n kne]]
    refine pr_oI_pos (fun q e => by have := P k q hkU e; omega) (fun q e => ?_) (fun hPk => ?_)
    · have := done1 (fun j ej ez => by rw [ek] at ej; rw [← Option.some.inj ej, e]; exact fun z => nomatch z)
      rw [ekn] at this
      exact this
    · -- the fork above goes too
      subst er
      have hk2 : pr_up U n false k = true := by rw [pr_up_n kne]; exact hkU
      obtain ⟨bu, hbu⟩ : ∃ bu, bu = pr_sb Le p up := ⟨_, rfl⟩
      rw [← hbu] at c1 c2 hb0 T1 L1 hct ⊢
      generalize hC2 : pr_up (pr_lC C up bu none) (2 * n) fr = C2 at *
      generalize hR2 : pr_lR rt up none = rt2 at *
      have s0 : C2 (2 * k + bu) = none := by
        rw [ek] at c2
        exact c2
      have s1 : C2 (2 * k + (1 - bu)) = C (2 * k + (1 - bu)) := by
        have := c1 (some k) (1 - bu) (fun j ej => by rw [← Option.some.inj ej]; exact kne) (by omega) (Or.inr ⟨(fun z => nomatch z), by omega⟩)
        exact this
      have s2 : C2 (2 * k + (1 - bu)) ≠ none := by
        rw [s1]
        exact F k (1 - bu) hkU hPk (by omega)
      have hfne : fu ≠ up := by
        intro e
        have h3 := f3 (by rw [ek]; exact fun z => nomatch z)
        rw [e] at h3
        have h4 := ((T.2.2 up (pr_sb Le p up) (fun k e => (f1 k e).1) (pr_sb_lt Le p up)).2 k (h3.trans ek)).1.2 k ek
        exact absurd h4.1 (Nat.lt_irrefl _)
      have hfn : ∀ j, fu = some j → j ≠ n := fun j e z => by have := (f2 j e).2.1; rw [z] at this; omega
      have hfk : ∀ j, fu = some j → j ≠ k := fun j e z => hfne (by rw [e, ek, z])
      have hbf := pr_sb_lt Le p fu
      have hctf : pr_ct C rt fu (pr_sb Le p fu) = some k := (f3 (by rw [ek]; exact fun z => nomatch z)).trans ek
      have esb : pr_sb Le (B k) fu = pr_sb Le p fu := by
        cases e : fu with
        | none => rfl
        | some j =>
          have h4 := ((T.2.2 fu (pr_sb Le p fu) (fun k e => (f2 k e).1) hbf).2 k hctf).1.2 j e
          rw [e] at h4
          exact h4.2.2
      have hct2 : pr_ct C2 rt2 fu (pr_sb Le p fu) = some k := (c1 fu _ hfn hbf (Or.inl hfne)).trans hctf
      obtain ⟨T3, L3, d1, d2⟩ := pr_rem2 T1 L1 hk2 (fun j e => ⟨by rw [pr_up_n (hfn j e)]; exact (f2 j e).1, hfk j e⟩) hbf hct2 (show 1 - bu < 2 by omega) rfl (by rw [show 1 - (1 - bu) = bu by omega]; exact s0)
      have hU3 : ∀ m, (pr_up (pr_up U n false) k false m = true ∧ pr_up Pe n none m ≠ none) ↔ (U m = true ∧ Pe m ≠ none ∧ m ≠ n) := by
        intro m
        by_cases e : m = k
        · rw [e, pr_up_s]
          exact ⟨(fun z => nomatch z.1), fun z => absurd hPk z.2.1⟩
        · rw [pr_up_n e]
          exact hU1 m
      have hUk : pr_up (pr_up U n false) k false n ≠ true := by
        rw [pr_up_n (fun e => kne e.symm)]
        exact hUn
      have F3 : ∀ m b, pr_up (pr_up U n false) k false m = true → m ≠ n → Pe m = none → b < 2 → pr_up (pr_lC C2 fu (pr_sb Le p fu) (C2 (2 * k + (1 - bu)))) (2 * k) (some n) (2 * m + b) ≠ none := by
        intro m b hm ne hp hb
        have hmk : m ≠ k := by
          intro e
          rw [e, pr_up_s] at hm
          exact nomatch hm
        rw [pr_up_n hmk] at hm
        by_cases same : fu = some m ∧ b = pr_sb Le p fu
        · intro z
          refine s2 (d2.symm.trans ?_)
          rw [same.2] at z
          rw [same.1] at z ⊢
          exact z
        · have e := d1 (some m) b (fun j ej => by rw [← Option.some.inj ej]; exact hmk) hb (by
            by_cases em : fu = some m
            · exact Or.inr ⟨(fun z => nomatch z), fun eb => same ⟨em, eb⟩⟩
            · exact Or.inl (fun z => em z.symm))
          have e2 := c1 (some m) b (fun j ej => by rw [← Option.some.inj ej]; exact ne) hb (Or.inl (fun z => hmk (by rw [ek] at z; exact Option.some.inj z)))
          intro z
          exact F m b (hUo m hm) hp hb (e2.symm.trans (e.symm.trans z))
      have G3 := pr_G_out ⟨T, P, F, hc, h32, L⟩ hn hPn T3 F3 (fun b hm hb => absurd hm hUk) L3 hU3
      have k138 : wX_takeOut_138 post (pr_oI (C2 (2 * k + (1 - bu)))) (nI h) (pr_oI rt2) (pr_oI (some n)) (nI k) (pr_oI fu) (pr_bA (pr_up U n false)) (pr_nA B) (pr_nA Le) (pr_oA (pr_up Pe n none)) (pr_oA C2) a6 a7 a8 a9 := by
        unfold wX_takeOut_138
        refine ⟨pk_in k 64 tk.1, ?_⟩
        rw [nI_clamp (show k < 2 ^ 31 by omega)]
        refine pr_w_lead (p := B k) (t := C2 (2 * k + (1 - bu))) (fun j e => ⟨pr_T_lt T (f2 j e).1, by have := (f2 j e).2.1; omega⟩) tk.2.2.1 ?_
        dsimp only
        rw [esb]
        refine pr_w_release tk.1 ?_
        dsimp only
        have := H _ _ _ _ G3 hU3
        rw [ekn] at this
        exact this
      refine ⟨pk_in (2 * k) 128 (by omega) (pr_ix0 k), nm_r (pr_rd0 C2 tk.1) ?_⟩
      rcases (show bu = 0 ∨ bu = 1 by omega) with e | e
      · subst e
        refine br_t (show pr_oI (C2 (2 * k)) < 0 by rw [show C2 (2 * k) = none from s0]; decide) ⟨pk_in (2 * k + 1) 128 (by omega) (pr_ix1 k), ?_⟩
        rw [pr_rd1 C2 tk.1]
        exact k138
      · subst e
        obtain ⟨d, hd⟩ := pr_ne_none (show C2 (2 * k) ≠ none from s2)
        have hd64 : d < 64 := pr_T_lt T1 ((pr_child T1 hk2 (show 0 < 2 by omega)).2 d hd).1.1
        refine br_f (show ¬ pr_oI (C2 (2 * k)) < 0 by rw [hd]; exact nI_pos (by omega)) ?_
        exact k138
  unfold wpX_takeOut
  dsimp only
  refine nm_r (nI_pred h) ⟨pk_in n 64 tn.1, nm_r (e' := pr_oA (pr_up Pe n none)) (by rw [nI_clamp (show n < 2 ^ 31 by omega)]; exact pr_upd_o _ _ none) ⟨pk_in (2 * n) 128 (by omega) (pr_ix0 n), nm_r (pr_rd0 C tn.1) ⟨pk_in (2 * n + 1) 128 (by omega) (pr_ix1 n), nm_r (pr_rd1 C tn.1) ?_⟩⟩⟩
  have hlt : ∀ b, b < 2 → ∀ k, C (2 * n + b) = some k → k < 2 ^ 31 := by
    intro b hb k e
    have := pr_T_lt T ((pr_child T hn hb).2 k e).1.1
    omega
  refine pr_oI_neg (hlt 0 (by omega)) (fun e0 => ?_) (fun c0 e0 => ?_)
  · exact pr_oI_neg (hlt 0 (by omega)) (fun _ => k55 1 _ (by omega) rfl e0) (fun c0 e => absurd (e0.symm.trans e) (fun z => nomatch z))
  · refine pr_oI_neg (hlt 1 (by omega)) (fun e1 => ?_) (fun c1 e1 => ?_)
    · exact pr_oI_neg (hlt 0 (by omega)) (fun e => absurd (e0.symm.trans e) (fun z => nomatch z)) (fun _ _ => k55 0 _ (by omega) rfl e1)
    · have hU1 : ∀ m, (U m = true ∧ pr_up Pe n none m ≠ none) ↔ (U m = true ∧ Pe m ≠ none ∧ m ≠ n) := by
        intro m
        by_cases e : m = n
        · rw [e, pr_up_s]
          exact ⟨fun z => absurd rfl z.2, fun z => absurd rfl z.2.2⟩
        · rw [pr_up_n e]
          exact ⟨fun z => ⟨z.1, z.2, e⟩, fun z => ⟨z.1, z.2.1⟩⟩
      refine H _ _ _ _ (pr_G_out ⟨T, P, F, hc, h32, L⟩ hn hPn T (fun m b hm _ hp hb => F m b hm hp hb) (fun b _ hb => ?_) L hU1) hU1
      rcases (show b = 0 ∨ b = 1 by omega) with e | e
      · rw [e]
        intro z
        exact absurd (e0.symm.trans z) (fun z => nomatch z)
      · rw [e, e1]
        exact fun z => nomatch z
end
end
section
/-! common, insert -/
theorem pr_w_common {post : Int32 → Prop} {x y lim : Nat} (hx : x < 65536) (hy : y < 65536) (hl : lim ≤ 16) (H : ∀ s, s ≤ lim → pr_ag s x y → (s < lim → pr_bit s x ≠ pr_bit s y) → post (nI s)) : wpX_common post () (nI x) (nI y) (nI lim) := by
  have key : ∀ n s, lim < s + n → s ≤ lim → pr_ag s x y → wX_common_2 post (nI x) (nI y) (nI lim) n (nI s) := by
    intro n
    induction n with
    | zero =>
      intro s h1 h2
      omega
    | succ n ih =>
      intro s h1 h2 hag
      refine pk_le lim s (fun z => H s h2 hag (fun w => absurd w (by omega))) (fun z => ?_)
      have b1 := pr_bit_lt s x
      have b2 := pr_bit_lt s y
      refine pr_w_bit hx (show s < 16 by omega) (pr_w_bit hy (show s < 16 by omega) (pk_eq (pr_bit s x) (pr_bit s y) (fun e => nm_r (nI_1 s) (ih (s + 1) (by omega) (by omega) ((pr_ag_succ (by omega)).mpr ⟨hag, e⟩))) (fun ne => H s h2 hag (fun _ => ne)) rfl rfl (by omega) (by omega)))
  exact ⟨lim + 1, key (lim + 1) 0 (by omega) (by omega) (pr_ag_zero hx hy)⟩
section
variable {U : Nat → Bool} {B Le : Nat → Nat} {C : Nat → Option Nat} {rt : Option Nat} {Pe : Nat → Option Nat}
theorem pr_room {hd : Nat} {fr : Option Nat} (g : pr_G U B Le Pe C rt hd fr) (h : hd < 32) : pr_cnt (fun k => U k = true) 64 < 63 := by
  obtain ⟨T, P, F, hc, h32, L⟩ := g
  have s := pr_cnt_split (fun k => U k = true) (fun k => Pe k ≠ none) 64
  rw [hc, pr_cnt_congr (P := fun k => U k = true ∧ ¬ Pe k ≠ none) (Q := fun k => U k = true ∧ Pe k = none) (fun k _ => ⟨fun z => ⟨z.1, Classical.byContradiction z.2⟩, fun z => ⟨z.1, fun w => w z.2⟩⟩)] at s
  cases e : rt with
  | none =>
    have := pr_cnt_zero (P := fun k => U k = true) (n := 64) (fun k _ hk => (pr_root T).1 e k hk)
    omega
  | some r =>
    have := pr_forks T F e
    omega
theorem pr_G_in {fr fr' rt' : Option Nat} {U' : Nat → Bool} {B' Le' : Nat → Nat} {Pe' C' : Nat → Option Nat} {hd f p len q : Nat} (g : pr_G U B Le Pe C rt hd fr) (h31 : hd < 32) (hf : U f = false) (hq : q < 8)
    (T' : pr_T U' B' Le' C' rt') (F' : ∀ m b, U' m = true → Pe' m = none → b < 2 → C' (2 * m + b) ≠ none) (L' : pr_FL U' C' fr')
    (hU : ∀ m, (U' m = true ∧ Pe' m ≠ none) ↔ ((U m = true ∧ Pe m ≠ none) ∨ m = f)) (ho : ∀ m, U m = true → B' m = B m ∧ Le' m = Le m ∧ Pe' m = Pe m) (hfk : Le' f = len ∧ B' f = p ∧ Pe' f = some q) :
    pr_G U' B' Le' Pe' C' rt' (hd + 1) fr' ∧ ∀ l p' q', pr_E U' B' Le' Pe' l p' q' ↔ pr_E U B Le Pe l p' q' ∨ (l = len ∧ p' = p ∧ q' = q) := by
  obtain ⟨T, P, F, hc, h32, L⟩ := g
  have sn : ∀ {o : Option Nat} {q : Nat}, o = some q → o ≠ none := fun e z => by rw [e] at z; exact nomatch z
  refine ⟨⟨T', fun m q' hm hq' => ?_, F', ?_, by omega, L'⟩, fun l p' q' => ⟨fun h => ?_, fun h => ?_⟩⟩
  · rcases (hU m).mp ⟨hm, sn hq'⟩ with h | h
    · rw [(ho m h.1).2.2] at hq'
      exact P m q' h.1 hq'
    · rw [h, hfk.2.2] at hq'
      rw [← Option.some.inj hq']
      exact hq
  · have hf64 : f < 64 := (T'.1 f ((hU f).mpr (Or.inr rfl)).1).1
    rw [pr_cnt_add (P := fun k => U k = true ∧ Pe k ≠ none) (Q := fun k => U' k = true ∧ Pe' k ≠ none) hf64 (fun z => by have := z.1; rw [hf] at this; exact nomatch this) ((hU f).mpr (Or.inr rfl)) (fun k _ hk => ⟨fun z => ((hU k).mp z).resolve_right hk, fun z => (hU k).mpr (Or.inl z)⟩), hc]
  · obtain ⟨m, hm, h1, h2, h3⟩ := h
    rcases (hU m).mp ⟨hm, sn h3⟩ with h | h
    · rw [(ho m h.1).2.2] at h3
      rw [(ho m h.1).2.1] at h1
      rw [(ho m h.1).1] at h2
      exact Or.inl ⟨m, h.1, h1, h2, h3⟩
    · subst h
      exact Or.inr ⟨by rw [← h1, hfk.1], by rw [← h2, hfk.2.1], by rw [hfk.2.2] at h3; exact (Option.some.inj h3).symm⟩
  · rcases h with ⟨m, hm, h1, h2, h3⟩ | ⟨h1, h2, h3⟩
    · have := ((hU m).mpr (Or.inl ⟨hm, sn h3⟩)).1
      have h := ho m hm
      exact ⟨m, this, by rw [h.2.1, h1], by rw [h.1, h2], by rw [h.2.2, h3]⟩
    · exact ⟨f, ((hU f).mpr (Or.inr rfl)).1, by rw [hfk.1, h1], by rw [hfk.2.1, h2], by rw [hfk.2.2, h3]⟩
/-- after newNode: a link of an old node reads as before -/
theorem pr_ct_new {o : Option Nat} {f b : Nat} (ho : ∀ k, o = some k → k ≠ f) (hb : b < 2) : pr_ct (pr_up (pr_up C (2 * f) none) (2 * f + 1) none) rt o b = pr_ct C rt o b :=
  (pr_ct_up (b' := 1) ho hb (by omega)).trans (pr_ct_up (b' := 0) ho hb (by omega))
theorem pr_new_0 {f b : Nat} (hb : b < 2) : pr_up (pr_up C (2 * f) none) (2 * f + 1) none (2 * f + b) = none := by
  rcases (show b = 0 ∨ b = 1 by omega) with e | e
  · subst e
    rw [pr_up_n (by omega)]
    exact pr_up_s
  · subst e
    exact pr_up_s
theorem pr_sb_congr {Le' : Nat → Nat} {p : Nat} {up : Option Nat} (h : ∀ k, up = some k → Le' k = Le k) : pr_sb Le' p up = pr_sb Le p up := by
  cases up with
  | none => rfl
  | some k =>
    show pr_bit (Le' k) p = pr_bit (Le k) p
    rw [h k rfl]
theorem pr_up_t {f m : Nat} : pr_up U f true m = true ↔ U m = true ∨ m = f := by
  by_cases e : m = f
  · rw [e, pr_up_s]
    exact ⟨fun _ => Or.inr rfl, fun _ => rfl⟩
  · rw [pr_up_n e]
    exact ⟨fun z => Or.inl z, fun z => z.resolve_right e⟩
/-- one node comes in, its own links given -/
theorem pr_in1 {hd f p len q : Nat} {up fu fr rt' : Option Nat} {C' : Nat → Option Nat} (g : pr_G U B Le Pe C rt hd fr) (h31 : hd < 32) (hf : pr_fnd U B Le C rt p len none up fu) (hp : p < 65536) (hl : len ≤ 16) (hc : p % 2 ^ (16 - len) = 0) (hq : q < 8)
    (f64 : f < 64) (fU : U f = false) (L' : pr_FL (pr_up U f true) C' (C (2 * f)))
    (hlow : ∀ m, U m = true → pr_SS U B Le up (pr_sb Le p up) m → len ≤ Le m ∧ pr_ag len p (B m))
    (hslot : pr_ct C' rt' up (pr_sb Le p up) = some f)
    (hoth : ∀ o b, (∀ k, o = some k → k ≠ f) → b < 2 → (o ≠ up ∨ (o ≠ none ∧ b ≠ pr_sb Le p up)) → pr_ct C' rt' o b = pr_ct C rt o b)
    (hch : ∀ b, b < 2 → (C' (2 * f + b) = none ∧ ∀ m, pr_SS U B Le up (pr_sb Le p up) m → pr_bit len (B m) ≠ b) ∨ ∃ c, C' (2 * f + b) = some c ∧ pr_ct C rt up (pr_sb Le p up) = some c ∧ pr_bit len (B c) = b ∧ len < Le c) :
    pr_G (pr_up U f true) (pr_up B f p) (pr_up Le f len) (pr_up Pe f (some q)) C' rt' (hd + 1) (C (2 * f)) ∧ ∀ l p' q', pr_E (pr_up U f true) (pr_up B f p) (pr_up Le f len) (pr_up Pe f (some q)) l p' q' ↔ pr_E U B Le Pe l p' q' ∨ (l = len ∧ p' = p ∧ q' = q) := by
  have g0 := g
  obtain ⟨T, P, F, hcn, h32, L⟩ := g
  have hne : ∀ m, U m = true → m ≠ f := fun m hm e => by rw [e, fU] at hm; exact nomatch hm
  obtain ⟨f1, f2, f3, f4, f5⟩ := hf
  obtain ⟨f5, f6⟩ := f5 rfl
  have ho : ∀ m, U m = true → pr_up B f p m = B m ∧ pr_up Le f len m = Le m := fun m hm => ⟨pr_up_n (hne m hm), pr_up_n (hne m hm)⟩
  have T1 : pr_T U (pr_up B f p) (pr_up Le f len) C rt := pr_T_congr T ho (fun _ _ _ _ => rfl)
  have eB : pr_up B f p f = p := pr_up_s
  have eL : pr_up Le f len f = len := pr_up_s
  have hb0 := pr_sb_lt Le p up
  have SSi : ∀ m, pr_SS U (pr_up B f p) (pr_up Le f len) up (pr_sb Le p up) m → pr_SS U B Le up (pr_sb Le p up) m := by
    intro m hm
    refine ⟨hm.1, fun k e => ?_⟩
    have h := hm.2 k e
    unfold pr_ext at h
    rw [(ho k (f1 k e).1).1, (ho k (f1 k e).1).2, (ho m hm.1).1, (ho m hm.1).2] at h
    exact h
  have hup : ∀ k, up = some k → U k = true ∧ pr_ext (pr_up B f p) (pr_up Le f len) k (pr_sb Le p up) f := by
    intro k e
    have h := f1 k e
    refine ⟨h.1, ?_⟩
    unfold pr_ext
    rw [(ho k h.1).1, (ho k h.1).2, eB, eL]
    refine ⟨h.2.1, h.2.2, ?_⟩
    rw [e]
    rfl
  have inSS : ∀ m b, U m = true → pr_ext (pr_up B f p) (pr_up Le f len) f b m → pr_SS U B Le up (pr_sb Le p up) m := fun m b hm hx =>
    SSi m ⟨hm, fun k e => pr_ext_trans (hup k e).2 (pr_ext_sub hx) (by rw [eL]; exact hl)⟩
  have M := T1.2.2 up (pr_sb Le p up) (fun k e => (f1 k e).1) hb0
  have T2 : pr_T (pr_up U f true) (pr_up B f p) (pr_up Le f len) C' rt' := by
    refine pr_ins T1 (fun m => pr_up_t) ?_ hup hb0 (fun m hm h1 h2 => ?_) (fun m hm => ?_) hslot (fun o b hoU hb hx => hoth o b (fun k e => hne k (hoU k e)) hb hx) (fun b hb => ?_)
    · rw [eB, eL]
      exact ⟨f64, hl, hp, hc⟩
    · rw [(ho m hm).2, eL] at h1
      rw [(ho m hm).1, eB] at h2
      exact f5 m hm h1 h2
    · have h := hlow m hm.1 (SSi m hm)
      unfold pr_sub
      rw [(ho m hm.1).1, (ho m hm.1).2, eB, eL]
      exact h
    · rcases hch b hb with ⟨h1, h2⟩ | ⟨c, h1, h2, h3, h4⟩
      · rw [h1]
        refine ⟨fun _ m hm => ?_, fun c e => nomatch e⟩
        have hx := hm.2.2.2
        rw [eL, (ho m hm.1).1] at hx
        exact h2 m (inSS m b hm.1 hm.2) hx
      · rw [h1]
        refine ⟨(fun e => nomatch e), fun d e => ?_⟩
        have e := Option.some.inj e
        subst e
        have Mc := M.2 c h2
        refine ⟨⟨Mc.1.1, ?_⟩, fun m hm => Mc.2 m ⟨hm.1, fun k e => pr_ext_trans (hup k e).2 (pr_ext_sub hm.2) (by rw [eL]; exact hl)⟩⟩
        have h := hlow c Mc.1.1 (SSi c Mc.1)
        unfold pr_ext
        rw [(ho c Mc.1.1).1, (ho c Mc.1.1).2, eB, eL]
        exact ⟨h4, h.2, h3⟩
  refine pr_G_in g0 h31 fU hq T2 (fun m b hm hpe hb => ?_) L' (fun m => ?_) (fun m hm => ⟨(ho m hm).1, (ho m hm).2, pr_up_n (hne m hm)⟩) ⟨eL, eB, pr_up_s⟩
  · rcases pr_up_t.mp hm with h | h
    · rw [pr_up_n (hne m h)] at hpe
      by_cases same : up = some m ∧ b = pr_sb Le p up
      · intro z
        have e : pr_ct C' rt' up (pr_sb Le p up) = none := by
          rw [same.2] at z
          rw [same.1] at z ⊢
          exact z
        rw [hslot] at e
        exact nomatch e
      · have e := hoth (some m) b (fun k ek => by rw [← Option.some.inj ek]; exact hne m h) hb (by
          by_cases em : up = some m
          · exact Or.inr ⟨(fun z => nomatch z), fun eb => same ⟨em, eb⟩⟩
          · exact Or.inl (fun z => em z.symm))
        intro z
        exact F m b h hpe hb (e.symm.trans z)
    · rw [h, pr_up_s] at hpe
      exact nomatch hpe
  · by_cases e : m = f
    · rw [e, pr_up_s, pr_up_s]
      exact ⟨fun _ => Or.inr rfl, fun _ => ⟨rfl, fun z => nomatch z⟩⟩
    · rw [pr_up_n e, pr_up_n e]
      exact ⟨fun z => Or.inl z, fun z => z.resolve_right e⟩
end
end
section
/-! insert with a fork -/
section
variable {U : Nat → Bool} {B Le : Nat → Nat} {C : Nat → Option Nat} {rt : Option Nat} {Pe : Nat → Option Nat}
theorem pr_in2 {hd f g p len q s c : Nat} {up fu fr fr' rt' : Option Nat} {C' : Nat → Option Nat} (g0 : pr_G U B Le Pe C rt hd fr) (h31 : hd < 32) (hf : pr_fnd U B Le C rt p len none up fu) (hp : p < 65536) (hl : len ≤ 16) (hc : p % 2 ^ (16 - len) = 0) (hq : q < 8)
    (f64 : f < 64) (fU : U f = false) (g64 : g < 64) (gU : U g = false) (ngf : g ≠ f) (L' : pr_FL (pr_up (pr_up U f true) g true) C' fr')
    (hcc : pr_ct C rt up (pr_sb Le p up) = some c) (hs : s < len) (hsc : s < Le c) (hag : pr_ag s p (B c)) (hbit : pr_bit s p ≠ pr_bit s (B c))
    (hslot : pr_ct C' rt' up (pr_sb Le p up) = some g)
    (hoth : ∀ o b, (∀ k, o = some k → k ≠ f ∧ k ≠ g) → b < 2 → (o ≠ up ∨ (o ≠ none ∧ b ≠ pr_sb Le p up)) → pr_ct C' rt' o b = pr_ct C rt o b)
    (hgf : C' (2 * g + pr_bit s p) = some f) (hgc : C' (2 * g + pr_bit s (B c)) = some c) (hfb : ∀ b, b < 2 → C' (2 * f + b) = none) :
    pr_G (pr_up (pr_up U f true) g true) (pr_up (pr_up B f p) g (pr_cut s p)) (pr_up (pr_up Le f len) g s) (pr_up (pr_up Pe f (some q)) g none) C' rt' (hd + 1) fr' ∧ ∀ l p' q', pr_E (pr_up (pr_up U f true) g true) (pr_up (pr_up B f p) g (pr_cut s p)) (pr_up (pr_up Le f len) g s) (pr_up (pr_up Pe f (some q)) g none) l p' q' ↔ pr_E U B Le Pe l p' q' ∨ (l = len ∧ p' = p ∧ q' = q) := by
  have g1 := g0
  obtain ⟨T, P, F, hcn, h32, L⟩ := g0
  obtain ⟨f1, f2, f3, f4, f5⟩ := hf
  obtain ⟨f5, f6⟩ := f5 rfl
  have nf : ∀ m, U m = true → m ≠ f := fun m hm e => by rw [e, fU] at hm; exact nomatch hm
  have ng : ∀ m, U m = true → m ≠ g := fun m hm e => by rw [e, gU] at hm; exact nomatch hm
  have eBf : pr_up (pr_up B f p) g (pr_cut s p) f = p := by rw [pr_up_n (fun e => ngf e.symm), pr_up_s]
  have eLf : pr_up (pr_up Le f len) g s f = len := by rw [pr_up_n (fun e => ngf e.symm), pr_up_s]
  have eBg : pr_up (pr_up B f p) g (pr_cut s p) g = pr_cut s p := pr_up_s
  have eLg : pr_up (pr_up Le f len) g s g = s := pr_up_s
  have ho : ∀ m, U m = true → pr_up (pr_up B f p) g (pr_cut s p) m = B m ∧ pr_up (pr_up Le f len) g s m = Le m := fun m hm => by
    rw [pr_up_n (ng m hm), pr_up_n (nf m hm), pr_up_n (ng m hm), pr_up_n (nf m hm)]
    exact ⟨rfl, rfl⟩
  have ePf : pr_up (pr_up Pe f (some q)) g none f = some q := by rw [pr_up_n (fun e => ngf e.symm), pr_up_s]
  have ePg : pr_up (pr_up Pe f (some q)) g none g = none := pr_up_s
  have hoP : ∀ m, U m = true → pr_up (pr_up Pe f (some q)) g none m = Pe m := fun m hm => by rw [pr_up_n (ng m hm), pr_up_n (nf m hm)]
  have eU : ∀ m, pr_up (pr_up U f true) g true m = true ↔ (U m = true ∨ m = f) ∨ m = g := fun m => by rw [pr_up_t, pr_up_t]
  generalize pr_up (pr_up B f p) g (pr_cut s p) = B2 at *
  generalize pr_up (pr_up Le f len) g s = Le2 at *
  generalize pr_up (pr_up Pe f (some q)) g none = Pe2 at *
  generalize pr_up (pr_up U f true) g true = U2 at *
  have hb0 := pr_sb_lt Le p up
  have hbp := pr_bit_lt s p
  have hbc := pr_bit_lt s (B c)
  have T1 : pr_T U B2 Le2 C rt := pr_T_congr T ho (fun _ _ _ _ => rfl)
  have M := (T1.2.2 up (pr_sb Le p up) (fun k e => (f1 k e).1) hb0).2 c hcc
  have hcU := M.1.1
  have tc := T.1 c hcU
  have agc : pr_ag s (pr_cut s p) (B c) := pr_ag_trans (pr_cut_ag s p) hag
  have gsc : pr_sub B2 Le2 g c := by
    unfold pr_sub
    rw [eBg, eLg, (ho c hcU).1, (ho c hcU).2]
    exact ⟨Nat.le_of_lt hsc, agc⟩
  have hupg : ∀ k, up = some k → U k = true ∧ pr_ext B2 Le2 k (pr_sb Le p up) g := by
    intro k e
    have h := f1 k e
    have hx := M.1.2 k e
    refine ⟨h.1, ?_⟩
    unfold pr_ext at hx ⊢
    rw [(ho k h.1).1, (ho k h.1).2, (ho c hcU).1, (ho c hcU).2] at hx
    rw [(ho k h.1).1, (ho k h.1).2, eBg, eLg]
    have eb : pr_sb Le p up = pr_bit (Le k) p := by rw [e]; rfl
    have hk16 : Le k < 16 := by omega
    have a1 : pr_ag (Le k + 1) p (B c) := (pr_ag_succ hk16).mpr ⟨pr_ag_trans (pr_ag_symm h.2.2) hx.2.1, by rw [hx.2.2, eb]⟩
    have lt : Le k < s := by
      refine Nat.lt_of_not_le (fun z => hbit ?_)
      exact pr_bit_ag a1 (by omega) (by omega)
    refine ⟨lt, ?_, ?_⟩
    · exact pr_ag_trans h.2.2 (pr_ag_symm (pr_ag_mono (Nat.le_of_lt lt) (pr_cut_ag s p)))
    · rw [eb]
      exact pr_bit_ag (pr_cut_ag s p) lt (by omega)
  have inSS : ∀ m b, U m = true → pr_ext B2 Le2 g b m → pr_sub B2 Le2 c m := fun m b hm hx =>
    M.2 m ⟨hm, fun k e => pr_ext_trans (hupg k e).2 (pr_ext_sub hx) (by rw [eLg]; omega)⟩
  have bitm : ∀ m, U m = true → pr_sub B2 Le2 c m → pr_bit s (B m) = pr_bit s (B c) := by
    intro m hm hx
    unfold pr_sub at hx
    rw [(ho c hcU).1, (ho c hcU).2, (ho m hm).1] at hx
    exact (pr_bit_ag hx.2 hsc tc.2.1).symm
  have scut : pr_cut s p < 65536 := Nat.lt_of_le_of_lt (pr_cut_le s p) hp
  have Tm : pr_T (pr_up U g true) B2 Le2 (pr_up C' (2 * g + pr_bit s p) none) rt' := by
    refine pr_ins T1 (fun m => pr_up_t) ?_ hupg hb0 (fun m hm h1 h2 => ?_) (fun m hm => pr_sub_trans gsc (M.2 m hm)) ?_ (fun o b hoU hb hx => ?_) (fun b hb => ?_)
    · rw [eBg, eLg]
      exact ⟨g64, by omega, scut, pr_cut_mod s p⟩
    · rw [eLg] at h1
      rw [eBg] at h2
      have hS : pr_SS U B2 Le2 up (pr_sb Le p up) m := by
        refine ⟨hm, fun k e => ?_⟩
        have hx := (hupg k e).2
        unfold pr_ext at hx ⊢
        rw [h1, h2]
        rw [eBg, eLg] at hx
        exact hx
      have := (M.2 m hS).1
      rw [(ho c hcU).2, h1] at this
      omega
    · exact (pr_ct_up (fun k e => ng k (f1 k e).1) hb0 hbp).trans hslot
    · exact (pr_ct_up (fun k e => ng k (hoU k e)) hb hbp).trans (hoth o b (fun k e => ⟨nf k (hoU k e), ng k (hoU k e)⟩) hb hx)
    · by_cases e : b = pr_bit s p
      · subst e
        rw [pr_up_s]
        refine ⟨fun _ m hm => hbit ?_, fun d e => nomatch e⟩
        have hx := hm.2.2.2
        rw [eLg, (ho m hm.1).1] at hx
        rw [← hx]
        exact bitm m hm.1 (inSS m _ hm.1 hm.2)
      · have eb : b = pr_bit s (B c) := by omega
        subst eb
        rw [pr_up_n (by omega), hgc]
        refine ⟨(fun e => nomatch e), fun d e => ?_⟩
        have e := Option.some.inj e
        subst e
        refine ⟨⟨hcU, ?_⟩, fun m hm => inSS m _ hm.1 hm.2⟩
        unfold pr_ext
        rw [eBg, eLg, (ho c hcU).1, (ho c hcU).2]
        exact ⟨hsc, agc, rfl⟩
  have hgfx : pr_ext B2 Le2 g (pr_bit s p) f := by
    unfold pr_ext
    rw [eBg, eLg, eBf, eLf]
    exact ⟨hs, pr_cut_ag s p, rfl⟩
  have hgU : pr_up U g true g = true := pr_up_s
  have Mg := (pr_child Tm hgU hbp).1 pr_up_s
  have T2 : pr_T U2 B2 Le2 C' rt' := by
    refine pr_ins Tm (up := some g) (b0 := pr_bit s p) (f := f) (fun m => ?_) ?_ (fun k e => ?_) hbp (fun m hm h1 h2 => ?_) (fun m hm => ?_) hgf (fun o b hoU hb hx => ?_) (fun b hb => ?_)
    · rw [eU, pr_up_t]
      constructor
      · rintro ((h | h) | h)
        · exact Or.inl (Or.inl h)
        · exact Or.inr h
        · exact Or.inl (Or.inr h)
      · rintro ((h | h) | h)
        · exact Or.inl (Or.inl h)
        · exact Or.inr h
        · exact Or.inl (Or.inr h)
    · rw [eBf, eLf]
      exact ⟨f64, hl, hp, hc⟩
    · rw [← Option.some.inj e]
      exact ⟨hgU, hgfx⟩
    · rw [eLf] at h1
      rw [eBf] at h2
      rcases pr_up_t.mp hm with h | h
      · rw [(ho m h).2] at h1
        rw [(ho m h).1] at h2
        exact f5 m h h1 h2
      · rw [h, eLg] at h1
        omega
    · exact absurd ⟨hm.1, hm.2 g rfl⟩ (Mg m)
    · cases o with
      | none => rfl
      | some k =>
        show C' (2 * k + b) = pr_up C' (2 * g + pr_bit s p) none (2 * k + b)
        refine (pr_up_n (fun e => ?_)).symm
        have ek : k = g := by omega
        rcases hx with h | h
        · exact h (by rw [ek])
        · exact h.2 (by omega)
    · rw [hfb b hb]
      refine ⟨fun _ m hm => ?_, fun d e => nomatch e⟩
      exact Mg m ⟨hm.1, pr_ext_trans hgfx (pr_ext_sub hm.2) (by rw [eLf]; exact hl)⟩
  refine pr_G_in g1 h31 fU hq T2 (fun m b hm hpe hb => ?_) L' (fun m => ?_) (fun m hm => ⟨(ho m hm).1, (ho m hm).2, hoP m hm⟩) ⟨eLf, eBf, ePf⟩
  · rcases (eU m).mp hm with (h | h) | h
    · rw [hoP m h] at hpe
      by_cases same : up = some m ∧ b = pr_sb Le p up
      · intro z
        have e : pr_ct C' rt' up (pr_sb Le p up) = none := by
          rw [same.2] at z
          rw [same.1] at z ⊢
          exact z
        rw [hslot] at e
        exact nomatch e
      · have e := hoth (some m) b (fun k ek => by rw [← Option.some.inj ek]; exact ⟨nf m h, ng m h⟩) hb (by
          by_cases em : up = some m
          · exact Or.inr ⟨(fun z => nomatch z), fun eb => same ⟨em, eb⟩⟩
          · exact Or.inl (fun z => em z.symm))
        intro z
        exact F m b h hpe hb (e.symm.trans z)
    · rw [h, ePf] at hpe
      exact nomatch hpe
    · subst h
      by_cases e : b = pr_bit s p
      · rw [e, hgf]
        exact fun z => nomatch z
      · rw [show b = pr_bit s (B c) by omega, hgc]
        exact fun z => nomatch z
  · constructor
    · intro ⟨h1, h2⟩
      rcases (eU m).mp h1 with (h | h) | h
      · rw [hoP m h] at h2
        exact Or.inl ⟨h, h2⟩
      · exact Or.inr h
      · rw [h, ePg] at h2
        exact absurd rfl h2
    · intro h
      rcases h with h | h
      · exact ⟨(eU m).mpr (Or.inl (Or.inl h.1)), by rw [hoP m h.1]; exact h.2⟩
      · refine ⟨(eU m).mpr (Or.inl (Or.inr h)), ?_⟩
        rw [h, ePf]
        exact fun z => nomatch z
end
end
section
/-! insert, walked -/
section
variable {U : Nat → Bool} {B Le : Nat → Nat} {C : Nat → Option Nat} {rt : Option Nat} {Pe : Nat → Option Nat}
theorem pr_w_insert {post : St1 → Prop} {h1 : Int32} {a6 a7 a8 a9 : Nat → Int32} {hd p len q : Nat} {up fu fr : Option Nat} (g0 : pr_G U B Le Pe C rt hd fr) (h31 : hd < 32) (hf : pr_fnd U B Le C rt p len none up fu) (hp : p < 65536) (hl : len ≤ 16) (hc : p % 2 ^ (16 - len) = 0) (hq : q < 8)
    (H : ∀ U' B' Le' Pe' C' rt' fr', pr_G U' B' Le' Pe' C' rt' (hd + 1) fr' → (∀ l p' q', pr_E U' B' Le' Pe' l p' q' ↔ pr_E U B Le Pe l p' q' ∨ (l = len ∧ p' = p ∧ q' = q)) → post (h1, pr_oI rt', pr_oI fr', pr_oI up, pr_oI fu, pr_bA U', pr_nA B', pr_nA Le', pr_oA Pe', pr_oA C', a6, a7, a8, a9)) :
    wpX_insert post (h1, pr_oI rt, pr_oI fr, pr_oI up, pr_oI fu, pr_bA U, pr_nA B, pr_nA Le, pr_oA Pe, pr_oA C, a6, a7, a8, a9) (nI p) (nI len) (nI q) := by
  have room := pr_room g0 h31
  have g1 := g0
  have hf1 := hf
  obtain ⟨T, P, F, hcn, h32, L⟩ := g0
  obtain ⟨f1, f2, f3, f4, f5⟩ := hf
  obtain ⟨f5, f6⟩ := f5 rfl
  obtain ⟨f, ef, f64, fU, fL, fcnt⟩ := pr_FL_new L (by omega)
  subst ef
  have nf : ∀ m, U m = true → m ≠ f := fun m hm e => by rw [e, fU] at hm; exact nomatch hm
  have hb0 := pr_sb_lt Le p up
  have M := T.2.2 up (pr_sb Le p up) (fun k e => (f1 k e).1) hb0
  have hupl : ∀ k, up = some k → k < 64 ∧ Le k < 16 := fun k e => ⟨pr_T_lt T (f1 k e).1, by have := (f1 k e).2.1; omega⟩
  have upf : ∀ k, up = some k → k ≠ f := fun k e => nf k (f1 k e).1
  have esb : pr_sb (pr_up Le f len) p up = pr_sb Le p up := pr_sb_congr (fun k e => pr_up_n (upf k e))
  have upne : ∀ k, U k = false → some k ≠ up := by
    intro k hk e
    have := (f1 k e.symm).1
    rw [hk] at this
    exact nomatch this
  -- the links after newNode and one more store at the new node
  have k39 : wX_insert_39 post (nI p) (nI len) (nI q) (pr_oI up) (pr_oI (pr_ct C rt up (pr_sb Le p up))) h1 (pr_oI rt) (pr_oI (some f)) (pr_oI up) (pr_oI fu) (pr_bA U) (pr_nA B) (pr_nA Le) (pr_oA Pe) (pr_oA C) a6 a7 a8 a9 := by
    unfold wX_insert_39
    refine pr_w_new (q := some q) f64 ?_
    dsimp only
    have lead1 : ∀ C2 : Nat → Option Nat, (∀ o b, (∀ k, o = some k → k ≠ f) → b < 2 → pr_ct C2 rt o b = pr_ct C rt o b) → (∀ o b, (∀ k, o = some k → k ≠ f) → b < 2 → (o ≠ up ∨ (o ≠ none ∧ b ≠ pr_sb Le p up)) → pr_ct (pr_lC C2 up (pr_sb Le p up) (some f)) (pr_lR rt up (some f)) o b = pr_ct C rt o b) ∧ pr_FL (pr_up U f true) (pr_lC C2 up (pr_sb Le p up) (some f)) (C (2 * f)) := by
      intro C2 hC2
      have c1 : ∀ o b, (∀ k, o = some k → k ≠ f) → b < 2 → (o ≠ up ∨ (o ≠ none ∧ b ≠ pr_sb Le p up)) → pr_ct (pr_lC C2 up (pr_sb Le p up) (some f)) (pr_lR rt up (some f)) o b = pr_ct C rt o b :=
        fun o b ho hb hx => (pr_ct_n hb0 hb hx).trans (hC2 o b ho hb)
      refine ⟨c1, fL _ (fun n hn hu hnf => ?_)⟩
      have := c1 (some n) 0 (fun k e => by rw [← Option.some.inj e]; exact hnf) (by omega) (Or.inl (upne n hu))
      exact this
    refine pr_oI_pos (o := pr_ct C rt up (pr_sb Le p up)) (fun c e => by have := pr_T_lt T (M.2 c e).1.1; omega) (fun c ec => ?_) (fun en => ?_)
    · have Mc := M.2 c ec
      have hcU := Mc.1.1
      have tc := T.1 c hcU
      have cf := nf c hcU
      have ecn : pr_oI (pr_ct C rt up (pr_sb Le p up)) = nI c := by
        rw [ec]
        rfl
      have eLc : pr_nA (pr_up Le f len) c = nI (Le c) := by
        unfold pr_nA
        rw [pr_up_n cf]
      have eBc : pr_nA (pr_up B f p) c = nI (B c) := by
        unfold pr_nA
        rw [pr_up_n cf]
      rw [ecn]
      have k87 : ∀ lim, lim ≤ len → lim ≤ Le c → (lim = len ∨ lim = Le c) → wX_insert_87 post (nI p) (nI len) (pr_oI up) (nI c) (nI f) (nI lim) h1 (pr_oI rt) (pr_oI (C (2 * f))) (pr_oI up) (pr_oI fu) (pr_bA (pr_up U f true)) (pr_nA (pr_up B f p)) (pr_nA (pr_up Le f len)) (pr_oA (pr_up Pe f (some q))) (pr_oA (pr_up (pr_up C (2 * f) none) (2 * f + 1) none)) a6 a7 a8 a9 := by
        intro lim hl1 hl2 hl3
        unfold wX_insert_87
        refine ⟨pk_in c 64 tc.1, ?_⟩
        rw [nI_clamp (show c < 2 ^ 31 by omega), eBc]
        refine pr_w_common hp tc.2.2.1 (show lim ≤ 16 by omega) (fun s hs hag hbit => ?_)
        refine pk_eq s len (fun es => ?_) (fun ns => ?_) rfl rfl (by omega) (by omega)
        · -- above c
          subst es
          have hlt : s < Le c := by
            rcases f6 c ec with h | h
            · exact h
            · refine Nat.lt_of_not_le (fun z => h ?_)
              rw [show Le c = s by omega]
              exact pr_ag_symm hag
          have hbc := pr_bit_lt s (B c)
          refine ⟨pk_in c 64 tc.1, pr_w_bit tc.2.2.1 (show s < 16 by omega) ⟨pk_in (2 * f + pr_bit s (B c)) 128 (by omega) (pr_ix f _), nm_r (e' := pr_oA (pr_up (pr_up (pr_up C (2 * f) none) (2 * f + 1) none) (2 * f + pr_bit s (B c)) (some c))) (by rw [pr_ix, nI_clamp (by omega)]; exact pr_upd_o _ _ (some c)) ?_⟩⟩
          refine pr_w_lead (t := some f) (fun k e => by rw [pr_up_n (upf k e)]; exact hupl k e) hp ?_
          dsimp only
          rw [esb]
          obtain ⟨c1, L1⟩ := lead1 (pr_up (pr_up (pr_up C (2 * f) none) (2 * f + 1) none) (2 * f + pr_bit s (B c)) (some c)) (fun o b ho hb => (pr_ct_up ho hb hbc).trans (pr_ct_new ho hb))
          have R := pr_in1 g1 h31 hf1 hp hl hc hq f64 fU L1 (fun m hm hS => ?_) pr_ct_s c1 (fun b hb => ?_)
          · exact H _ _ _ _ _ _ _ R.1 R.2
          · have := Mc.2 m hS
            exact ⟨Nat.le_trans (Nat.le_of_lt hlt) this.1, pr_ag_trans hag (pr_ag_mono (Nat.le_of_lt hlt) this.2)⟩
          · have e1 : pr_lC (pr_up (pr_up (pr_up C (2 * f) none) (2 * f + 1) none) (2 * f + pr_bit s (B c)) (some c)) up (pr_sb Le p up) (some f) (2 * f + b) = pr_up (pr_up (pr_up C (2 * f) none) (2 * f + 1) none) (2 * f + pr_bit s (B c)) (some c) (2 * f + b) :=
              pr_ct_n (rt := rt) (o' := some f) hb0 hb (Or.inl (upne f fU))
            rw [e1]
            by_cases eb : b = pr_bit s (B c)
            · subst eb
              exact Or.inr ⟨c, pr_up_s, ec, rfl, hlt⟩
            · refine Or.inl ⟨?_, fun m hS => ?_⟩
              · rw [pr_up_n (by omega)]
                exact pr_new_0 hb
              · rw [← pr_bit_ag (Mc.2 m hS).2 hlt tc.2.1]
                exact fun z => eb z.symm
        · -- a fork
          have hsc : s < Le c := by
            refine Nat.lt_of_not_le (fun z => ?_)
            have es : s = Le c := by omega
            rcases f6 c ec with h | h
            · omega
            · rw [← es] at h
              exact h (pr_ag_symm hag)
          have hbit := hbit (by omega)
          have hbp := pr_bit_lt s p
          have hbc := pr_bit_lt s (B c)
          refine pr_w_cut hp (show s ≤ 16 by omega) ?_
          obtain ⟨g, eg, g64, gU, gL, gcnt⟩ := pr_FL_new (fL (pr_up (pr_up C (2 * f) none) (2 * f + 1) none) (fun n hn hu hnf => by rw [pr_up_n (by omega), pr_up_n (by omega)])) (by omega)
          rw [eg]
          refine pr_w_new (q := none) g64 ?_
          dsimp only
          have ngf : g ≠ f := by
            intro e
            rw [e, pr_up_s] at gU
            exact nomatch gU
          have gU0 : U g = false := by
            rw [pr_up_n ngf] at gU
            exact gU
          have cg : c ≠ g := by
            intro e
            rw [e, gU0] at hcU
            exact nomatch hcU
          have upg : ∀ k, up = some k → k ≠ g := fun k e z => by
            have := (f1 k e).1
            rw [z, gU0] at this
            exact nomatch this
          have eBc2 : pr_nA (pr_up (pr_up B f p) g (pr_cut s p)) c = nI (B c) := by
            unfold pr_nA
            rw [pr_up_n cg, pr_up_n cf]
          have esb2 : pr_sb (pr_up (pr_up Le f len) g s) p up = pr_sb Le p up := pr_sb_congr (fun k e => by rw [pr_up_n (upg k e), pr_up_n (upf k e)])
          refine pr_w_bit hp (show s < 16 by omega) ⟨pk_in (2 * g + pr_bit s p) 128 (by omega) (pr_ix g _), nm_r (e' := pr_oA (pr_up (pr_up (pr_up (pr_up (pr_up C (2 * f) none) (2 * f + 1) none) (2 * g) none) (2 * g + 1) none) (2 * g + pr_bit s p) (some f))) (by rw [pr_ix, nI_clamp (by omega)]; exact pr_upd_o _ _ (some f)) ⟨pk_in c 64 tc.1, ?_⟩⟩
          rw [eBc2]
          refine pr_w_bit tc.2.2.1 (show s < 16 by omega) ⟨pk_in (2 * g + pr_bit s (B c)) 128 (by omega) (pr_ix g _), nm_r (e' := pr_oA (pr_up (pr_up (pr_up (pr_up (pr_up (pr_up C (2 * f) none) (2 * f + 1) none) (2 * g) none) (2 * g + 1) none) (2 * g + pr_bit s p) (some f)) (2 * g + pr_bit s (B c)) (some c))) (by rw [pr_ix, nI_clamp (by omega)]; exact pr_upd_o _ _ (some c)) ?_⟩
          refine pr_w_lead (t := some g) (fun k e => by rw [pr_up_n (upg k e), pr_up_n (upf k e)]; exact hupl k e) hp ?_
          dsimp only
          rw [esb2]
          have a1 : ∀ o b, (∀ k, o = some k → k ≠ f ∧ k ≠ g) → b < 2 → pr_ct (pr_up (pr_up (pr_up (pr_up (pr_up (pr_up C (2 * f) none) (2 * f + 1) none) (2 * g) none) (2 * g + 1) none) (2 * g + pr_bit s p) (some f)) (2 * g + pr_bit s (B c)) (some c)) rt o b = pr_ct C rt o b := by
            intro o b ho hb
            exact (pr_ct_up (fun k e => (ho k e).2) hb hbc).trans ((pr_ct_up (fun k e => (ho k e).2) hb hbp).trans ((pr_ct_new (fun k e => (ho k e).2) hb).trans (pr_ct_new (fun k e => (ho k e).1) hb)))
          have afg : ∀ b, b < 2 → pr_up (pr_up (pr_up (pr_up (pr_up (pr_up C (2 * f) none) (2 * f + 1) none) (2 * g) none) (2 * g + 1) none) (2 * g + pr_bit s p) (some f)) (2 * g + pr_bit s (B c)) (some c) (2 * f + b) = none := by
            intro b hb
            rw [pr_up_n (by omega), pr_up_n (by omega), pr_up_n (by omega), pr_up_n (by omega)]
            exact pr_new_0 hb
          have agp : pr_up (pr_up (pr_up (pr_up (pr_up (pr_up C (2 * f) none) (2 * f + 1) none) (2 * g) none) (2 * g + 1) none) (2 * g + pr_bit s p) (some f)) (2 * g + pr_bit s (B c)) (some c) (2 * g + pr_bit s p) = some f := by
            rw [pr_up_n (by omega)]
            exact pr_up_s
          have agc : pr_up (pr_up (pr_up (pr_up (pr_up (pr_up C (2 * f) none) (2 * f + 1) none) (2 * g) none) (2 * g + 1) none) (2 * g + pr_bit s p) (some f)) (2 * g + pr_bit s (B c)) (some c) (2 * g + pr_bit s (B c)) = some c := pr_up_s
          generalize pr_up (pr_up (pr_up (pr_up (pr_up (pr_up C (2 * f) none) (2 * f + 1) none) (2 * g) none) (2 * g + 1) none) (2 * g + pr_bit s p) (some f)) (2 * g + pr_bit s (B c)) (some c) = C4 at *
          have c1 : ∀ o b, (∀ k, o = some k → k ≠ f ∧ k ≠ g) → b < 2 → (o ≠ up ∨ (o ≠ none ∧ b ≠ pr_sb Le p up)) → pr_ct (pr_lC C4 up (pr_sb Le p up) (some g)) (pr_lR rt up (some g)) o b = pr_ct C rt o b :=
            fun o b ho hb hx => (pr_ct_n hb0 hb hx).trans (a1 o b ho hb)
          have L2 := gL (pr_lC C4 up (pr_sb Le p up) (some g)) (fun n hn hu hng => by
            have hnf : n ≠ f := by
              intro e
              rw [e, pr_up_s] at hu
              exact nomatch hu
            rw [pr_up_n hnf] at hu
            have := c1 (some n) 0 (fun k e => by rw [← Option.some.inj e]; exact ⟨hnf, hng⟩) (by omega) (Or.inl (upne n hu))
            rw [pr_up_n (by omega), pr_up_n (by omega)]
            exact this)
          have R := pr_in2 g1 h31 hf1 hp hl hc hq f64 fU g64 gU0 ngf L2 ec (show s < len by omega) hsc hag hbit pr_ct_s c1 ((pr_ct_n (rt := rt) (o' := some g) hb0 hbp (Or.inl (upne g gU0))).trans agp) ((pr_ct_n (rt := rt) (o' := some g) hb0 hbc (Or.inl (upne g gU0))).trans agc) (fun b hb => (pr_ct_n (rt := rt) (o' := some f) hb0 hb (Or.inl (upne f fU))).trans (afg b hb))
          exact H _ _ _ _ _ _ _ R.1 R.2
      refine ⟨pk_in c 64 tc.1, ?_⟩
      rw [nI_clamp (show c < 2 ^ 31 by omega), eLc]
      exact pk_le (Le c) len (fun hle => ⟨pk_in c 64 tc.1, k87 (Le c) hle (Nat.le_refl _) (Or.inr rfl)⟩) (fun hlt => k87 len (Nat.le_refl _) (Nat.le_of_lt hlt) (Or.inl rfl)) rfl rfl (by omega) (by omega)
    · -- nothing hung there
      refine pr_w_lead (t := some f) (fun k e => by rw [pr_up_n (upf k e)]; exact hupl k e) hp ?_
      dsimp only
      rw [esb]
      obtain ⟨c1, L1⟩ := lead1 (pr_up (pr_up C (2 * f) none) (2 * f + 1) none) (fun o b ho hb => pr_ct_new ho hb)
      have R := pr_in1 g1 h31 hf1 hp hl hc hq f64 fU L1 (fun m hm hS => absurd hS (M.1 en m)) pr_ct_s c1 (fun b hb => Or.inl ⟨(pr_ct_n (rt := rt) (o' := some f) hb0 hb (Or.inl (upne f fU))).trans (pr_new_0 hb), fun m hS => absurd hS (M.1 en m)⟩)
      exact H _ _ _ _ _ _ _ R.1 R.2
  unfold wpX_insert
  dsimp only
  refine pr_oI_pos (fun k e => by have := (hupl k e).1; omega) (fun k e => ?_) (fun e => ?_)
  · subst e
    have hk := hupl k rfl
    rw [show pr_oI (some k) = nI k from rfl]
    refine ⟨pk_in k 64 hk.1, ?_⟩
    rw [nI_clamp (show k < 2 ^ 31 by omega)]
    have hb := pr_bit_lt (Le k) p
    refine pr_w_bit hp hk.2 ⟨pk_in (2 * k + pr_bit (Le k) p) 128 (by omega) (pr_ix k _), ?_⟩
    rw [pr_rd C hk.1 hb]
    exact k39
  · subst e
    exact k39
end
end
section
/-! allow and deny over the entries -/
theorem pr_sn {α : Type} {o : Option α} {q : α} (e : o = some q) : o ≠ none := fun z => by rw [e] at z; exact nomatch z
def pr_OK (E : Nat → Nat → Nat → Prop) (hd : Nat) (u : St1) : Prop :=
  ∃ (U : Nat → Bool) (B Le : Nat → Nat) (Pe C : Nat → Option Nat) (rt fr : Option Nat) (ab fu : Int32) (a6 a7 a8 a9 : Nat → Int32), pr_G U B Le Pe C rt hd fr ∧ pr_E U B Le Pe = E ∧ u = (nI hd, pr_oI rt, pr_oI fr, ab, fu, pr_bA U, pr_nA B, pr_nA Le, pr_oA Pe, pr_oA C, a6, a7, a8, a9)
section
variable {U : Nat → Bool} {B Le : Nat → Nat} {C : Nat → Option Nat} {rt : Option Nat} {Pe : Nat → Option Nat}
theorem pr_E_out {U' : Nat → Bool} {n : Nat} (T : pr_T U B Le C rt) (hn : U n = true) (hU : ∀ m, (U' m = true ∧ pr_up Pe n none m ≠ none) ↔ (U m = true ∧ Pe m ≠ none ∧ m ≠ n)) (l p q : Nat) :
    pr_E U' B Le (pr_up Pe n none) l p q ↔ pr_E U B Le Pe l p q ∧ ¬ (l = Le n ∧ p = B n) := by
  constructor
  · rintro ⟨m, hm, h1, h2, h3⟩
    have h := (hU m).mp ⟨hm, pr_sn h3⟩
    rw [pr_up_n h.2.2] at h3
    refine ⟨⟨m, h.1, h1, h2, h3⟩, fun z => h.2.2 (T.2.1 m n h.1 hn (by rw [h1, z.1]) (by rw [h2, z.2]))⟩
  · rintro ⟨⟨m, hm, h1, h2, h3⟩, hne⟩
    have mn : m ≠ n := by
      intro e
      rw [e] at h1 h2
      exact hne ⟨h1.symm, h2.symm⟩
    exact ⟨m, ((hU m).mpr ⟨hm, pr_sn h3, mn⟩).1, h1, h2, by rw [pr_up_n mn]; exact h3⟩
theorem pr_G_pe {hd hd' n q : Nat} {fr : Option Nat} (g : pr_G U B Le Pe C rt hd fr) (hn : U n = true) (hq : q < 8) (h : hd' ≤ 32) (hh : (Pe n ≠ none ∧ hd' = hd) ∨ (Pe n = none ∧ hd' = hd + 1)) : pr_G U B Le (pr_up Pe n (some q)) C rt hd' fr := by
  obtain ⟨T, P, F, hc, h32, L⟩ := g
  refine ⟨T, fun m q' hm hq' => ?_, fun m b hm hp hb => ?_, ?_, h, L⟩
  · by_cases e : m = n
    · rw [e, pr_up_s] at hq'
      rw [← Option.some.inj hq']
      exact hq
    · rw [pr_up_n e] at hq'
      exact P m q' hm hq'
  · by_cases e : m = n
    · rw [e, pr_up_s] at hp
      exact nomatch hp
    · rw [pr_up_n e] at hp
      exact F m b hm hp hb
  · rcases hh with ⟨h1, h2⟩ | ⟨h1, h2⟩
    · rw [h2, ← hc]
      refine pr_cnt_congr (fun k _ => ?_)
      by_cases e : k = n
      · rw [e, pr_up_s]
        exact ⟨fun z => ⟨z.1, h1⟩, fun z => ⟨z.1, fun z => nomatch z⟩⟩
      · rw [pr_up_n e]
    · rw [h2, ← hc]
      exact pr_cnt_add (pr_T_lt T hn) (fun z => z.2 h1) ⟨hn, by rw [pr_up_s]; exact fun z => nomatch z⟩ (fun k _ hk => by rw [pr_up_n hk])
theorem pr_E_pe {n q : Nat} (T : pr_T U B Le C rt) (hn : U n = true) (h : Pe n = none) (l p q' : Nat) : pr_E U B Le (pr_up Pe n (some q)) l p q' ↔ pr_E U B Le Pe l p q' ∨ (l = Le n ∧ p = B n ∧ q' = q) := by
  constructor
  · rintro ⟨m, hm, h1, h2, h3⟩
    by_cases e : m = n
    · subst e
      rw [pr_up_s] at h3
      exact Or.inr ⟨h1.symm, h2.symm, (Option.some.inj h3).symm⟩
    · rw [pr_up_n e] at h3
      exact Or.inl ⟨m, hm, h1, h2, h3⟩
  · rintro (⟨m, hm, h1, h2, h3⟩ | ⟨h1, h2, h3⟩)
    · have e : m ≠ n := by
        intro e
        rw [e, h] at h3
        exact nomatch h3
      exact ⟨m, hm, h1, h2, by rw [pr_up_n e]; exact h3⟩
    · exact ⟨n, hn, h1.symm, h2.symm, by rw [pr_up_s, h3]⟩
end
theorem pr_w_deny {post : Int32 → St1 → Prop} {E : Nat → Nat → Nat → Prop} {hd x len : Nat} {u : St1} {y : Int32} (ok : pr_OK E hd u) (hx : x < 65536) (hy : y &&& 65535 = nI x) (hl : len ≤ 16)
    (H : ∀ r u' hd' E', pr_OK E' hd' u' → ((∃ q', E len (pr_cut len x) q') → hd = hd' + 1 ∧ r = nI hd' ∧ ∀ l p' q', E' l p' q' ↔ E l p' q' ∧ ¬ (l = len ∧ p' = pr_cut len x)) → post r u') : wpX_deny post u y (nI len) := by
  obtain ⟨U, B, Le, Pe, C, rt, fr, ab, fu, a6, a7, a8, a9, g, hE, hu⟩ := ok
  subst hu
  subst hE
  have g0 := g
  obtain ⟨T, P, F, hc, h32, L⟩ := g
  have hcl := pr_cut_le len x
  unfold wpX_deny
  dsimp only
  refine br_f (nI_pos (by omega)) (pk_le len 16 (fun _ => ?_) (fun z => absurd z (by omega)))
  rw [hy]
  refine pr_w_cut hx hl ?_
  refine pr_w_find T (show pr_cut len x < 65536 by omega) hl (pr_cut_mod len x) (fun r up fu hf => ?_)
  dsimp only
  have hf0 := hf
  obtain ⟨f1, f2, f3, f4, f5⟩ := hf
  refine pr_oI_neg (fun n e => by have := pr_T_lt T (f4 n e).2.1; omega) (fun e => ?_) (fun n e => ?_)
  · refine H _ _ hd _ ⟨U, B, Le, Pe, C, rt, fr, _, _, a6, a7, a8, a9, g0, rfl, rfl⟩ (fun hq => ?_)
    obtain ⟨q', m, hm, h1, h2, _⟩ := hq
    exact ((f5 e).1 m hm h1 h2).elim
  · subst e
    obtain ⟨hct, hn, hln, hbn⟩ := f4 n rfl
    have hn64 := pr_T_lt T hn
    rw [show pr_oI (some n) = nI n from rfl]
    refine ⟨pk_in n 64 hn64, ?_⟩
    rw [nI_clamp (show n < 2 ^ 31 by omega)]
    refine pr_oI_pos (o := Pe n) (fun q e => by have := P n q hn e; omega) (fun q e => ?_) (fun e => ?_)
    · have hp : Pe n ≠ none := by
        rw [e]
        exact fun z => nomatch z
      have hpos := pr_cnt_pos (P := fun k => U k = true ∧ Pe k ≠ none) hn64 ⟨hn, hp⟩
      obtain ⟨h, rfl⟩ : ∃ h, hd = h + 1 := ⟨hd - 1, by omega⟩
      refine pr_w_takeOut g0 hf0 hl hp (fun U' C' rt' fr' g' hU => ?_)
      dsimp only
      refine H _ _ h _ ⟨U', B, Le, _, C', rt', fr', _, _, a6, a7, a8, a9, g', rfl, rfl⟩ (fun _ => ⟨rfl, rfl, fun l p' q' => ?_⟩)
      have := pr_E_out T hn hU l p' q'
      rw [hln, hbn] at this
      exact this
    · refine H _ _ hd _ ⟨U, B, Le, Pe, C, rt, fr, _, _, a6, a7, a8, a9, g0, rfl, rfl⟩ (fun hq => ?_)
      obtain ⟨q', m, hm, h1, h2, h3⟩ := hq
      have : m = n := T.2.1 m n hm hn (by rw [h1, hln]) (by rw [h2, hbn])
      rw [this, e] at h3
      exact nomatch h3
theorem pr_w_allow {post : Int32 → St1 → Prop} {E : Nat → Nat → Nat → Prop} {hd x len q : Nat} {u : St1} {y : Int32} (ok : pr_OK E hd u) (hx : x < 65536) (hy : y &&& 65535 = nI x) (hl : len ≤ 16) (hq : q < 8)
    (H : ∀ r u' hd' E', pr_OK E' hd' u' → ((∀ q', ¬ E len (pr_cut len x) q') → hd < 32 → r = nI (hd + 1) ∧ ∀ l p' q', E' l p' q' ↔ E l p' q' ∨ (l = len ∧ p' = pr_cut len x ∧ q' = q)) → post r u') : wpX_allow post u y (nI len) (nI q) := by
  obtain ⟨U, B, Le, Pe, C, rt, fr, ab, fu, a6, a7, a8, a9, g, hE, hu⟩ := ok
  subst hu
  subst hE
  have g0 := g
  obtain ⟨T, P, F, hc, h32, L⟩ := g
  have hcl := pr_cut_le len x
  unfold wpX_allow
  dsimp only
  refine br_f (nI_pos (by omega)) (pk_lt 16 len (fun z => absurd z (by omega)) (fun _ => br_f (nI_pos (by omega)) (pk_le q 7 (fun _ => ?_) (fun z => absurd z (by omega)))))
  rw [hy]
  refine pr_w_cut hx hl ?_
  refine pr_w_find T (show pr_cut len x < 65536 by omega) hl (pr_cut_mod len x) (fun r up fu hf => ?_)
  dsimp only
  have hf0 := hf
  obtain ⟨f1, f2, f3, f4, f5⟩ := hf
  refine pr_oI_neg (fun n e => by have := pr_T_lt T (f4 n e).2.1; omega) (fun e => ?_) (fun n e => ?_)
  · subst e
    unfold wX_allow_69
    refine pk_lt hd 32 (fun h => ?_) (fun h => ?_)
    · refine nm_r (nI_1 hd) (br_t (by decide) ?_)
      refine pr_w_insert g0 h hf0 (show pr_cut len x < 65536 by omega) hl (pr_cut_mod len x) hq (fun U' B' Le' Pe' C' rt' fr' g' hE' => ?_)
      dsimp only
      exact H _ _ (hd + 1) _ ⟨U', B', Le', Pe', C', rt', fr', _, _, a6, a7, a8, a9, g', rfl, rfl⟩ (fun _ _ => ⟨rfl, hE'⟩)
    · exact H _ _ hd _ ⟨U, B, Le, Pe, C, rt, fr, _, _, a6, a7, a8, a9, g0, rfl, rfl⟩ (fun _ z => absurd z (by omega))
  · subst e
    obtain ⟨hct, hn, hln, hbn⟩ := f4 n rfl
    have hn64 := pr_T_lt T hn
    rw [show pr_oI (some n) = nI n from rfl]
    refine ⟨pk_in n 64 hn64, ?_⟩
    rw [nI_clamp (show n < 2 ^ 31 by omega)]
    refine pr_oI_neg (o := Pe n) (fun q e => by have := P n q hn e; omega) (fun e => ?_) (fun q0 e => ⟨pk_in n 64 hn64, nm_r (pr_upd_o Pe n (some q)) ?_⟩)
    · unfold wX_allow_69
      refine pk_lt hd 32 (fun h => ?_) (fun h => ?_)
      · refine nm_r (nI_1 hd) (br_f (nI_pos (by omega)) ⟨pk_in n 64 hn64, nm_r (e' := pr_oA (pr_up Pe n (some q))) (by rw [nI_clamp (show n < 2 ^ 31 by omega)]; exact pr_upd_o Pe n (some q)) ?_⟩)
        refine H _ _ (hd + 1) _ ⟨U, B, Le, _, C, rt, fr, _, _, a6, a7, a8, a9, pr_G_pe g0 hn hq (by omega) (Or.inr ⟨e, rfl⟩), rfl, rfl⟩ (fun _ _ => ⟨rfl, fun l p' q' => ?_⟩)
        have := pr_E_pe (q := q) T hn e l p' q'
        rw [hln, hbn] at this
        exact this
      · exact H _ _ hd _ ⟨U, B, Le, Pe, C, rt, fr, _, _, a6, a7, a8, a9, g0, rfl, rfl⟩ (fun _ z => absurd z (by omega))
    · refine H _ _ hd _ ⟨U, B, Le, _, C, rt, fr, _, _, a6, a7, a8, a9, pr_G_pe g0 hn hq h32 (Or.inl ⟨pr_sn e, rfl⟩), rfl, rfl⟩ (fun z _ => absurd ⟨n, hn, hln, hbn, e⟩ (z q0))
end
section
/-! settleAll: the stack -/
def pr_abv (U : Nat → Bool) (B Le : Nat → Nat) (Pe : Nat → Option Nat) (k : Nat) (o : Option Nat) : Prop :=
  (o = none → ∀ m, U m = true → Pe m ≠ none → Le m < Le k → ¬ pr_ag (Le m) (B m) (B k)) ∧
  ∀ a, o = some a → U a = true ∧ Pe a ≠ none ∧ Le a < Le k ∧ pr_ag (Le a) (B a) (B k) ∧ ∀ m, U m = true → Pe m ≠ none → Le m < Le k → pr_ag (Le m) (B m) (B k) → Le m ≤ Le a
def pr_pd (U : Nat → Bool) (B Le : Nat → Nat) (n b0 m : Nat) : Prop := U m = true ∧ ∃ b, b0 ≤ b ∧ b < 2 ∧ pr_ext B Le n b m
def pr_K (U : Nat → Bool) (B Le : Nat → Nat) (V : Nat → Prop) (s : Nat → Nat) (d step : Nat) (Pd : Nat → Prop) : Prop :=
  (∀ m, V m → U m = true) ∧ (∀ i, i < d → U (s i) = true ∧ ¬ V (s i)) ∧
  (∀ i j, i < d → j < d → i ≠ j → ¬ pr_sub B Le (s i) (s j)) ∧
  (∀ m, U m = true → ¬ V m → (∃ i, i < d ∧ pr_sub B Le (s i) m) ∨ Pd m) ∧
  (∀ i m, i < d → V m → ¬ pr_sub B Le (s i) m) ∧ pr_cnt V 64 = step ∧
  (∀ m, Pd m → U m = true ∧ ¬ V m ∧ ∀ i, i < d → ¬ pr_sub B Le (s i) m ∧ ¬ pr_sub B Le m (s i))
section
variable {U : Nat → Bool} {B Le : Nat → Nat} {C : Nat → Option Nat} {rt : Option Nat} {Pe : Nat → Option Nat}
theorem pr_K_room {V : Nat → Prop} {s : Nat → Nat} {d step : Nat} {Pd : Nat → Prop} (T : pr_T U B Le C rt) (k : pr_K U B Le V s d step Pd) : d + step ≤ 64 := by
  obtain ⟨k1, k2, k3, k4, k5, k6, k7⟩ := k
  have h1 : pr_cnt (fun _ => True) d ≤ pr_cnt (fun k => ¬ V k) 64 := by
    refine pr_cnt_inj s (fun j hj _ => ⟨pr_T_lt T (k2 j hj).1, (k2 j hj).2⟩) (fun i j hi hj _ _ e => ?_)
    refine Classical.byContradiction (fun ne => k3 i j hi hj ne ?_)
    rw [e]
    exact pr_sub_refl B Le (s j)
  rw [pr_cnt_all (fun _ _ => trivial)] at h1
  have := pr_cnt_not V 64
  omega
theorem pr_K_pop {V : Nat → Prop} {s : Nat → Nat} {d step : Nat} (T : pr_T U B Le C rt) (k : pr_K U B Le V s (d + 1) step (fun _ => False)) : pr_K U B Le (fun m => V m ∨ m = s d) s d (step + 1) (pr_pd U B Le (s d) 0) := by
  obtain ⟨k1, k2, k3, k4, k5, k6, k7⟩ := k
  have hn := k2 d (by omega)
  have below : ∀ m, pr_pd U B Le (s d) 0 m → U m = true ∧ pr_sub B Le (s d) m ∧ m ≠ s d := by
    rintro m ⟨hm, b, _, _, hx⟩
    refine ⟨hm, pr_ext_sub hx, fun e => ?_⟩
    rw [e] at hx
    exact absurd hx.1 (Nat.lt_irrefl _)
  refine ⟨fun m hm => ?_, fun i hi => ⟨(k2 i (by omega)).1, fun z => ?_⟩, fun i j hi hj => k3 i j (by omega) (by omega), fun m hm hv => ?_, fun i m hi hv => ?_, ?_, fun m hm => ?_⟩
  · rcases hm with h | h
    · exact k1 m h
    · rw [h]
      exact hn.1
  · rcases z with h | h
    · exact (k2 i (by omega)).2 h
    · refine k3 i d (by omega) (by omega) (by omega) ?_
      rw [h]
      exact pr_sub_refl B Le _
  · have hv1 : ¬ V m := fun z => hv (Or.inl z)
    have hv2 : m ≠ s d := fun z => hv (Or.inr z)
    rcases k4 m hm hv1 with ⟨i, hi, hs⟩ | h
    · by_cases e : i = d
      · subst e
        exact Or.inr ⟨hm, _, Nat.zero_le _, pr_bit_lt _ _, pr_sub_ext T hn.1 hm hs (fun e => hv2 e.symm)⟩
      · exact Or.inl ⟨i, by omega, hs⟩
    · exact h.elim
  · rcases hv with h | h
    · exact k5 i m (by omega) h
    · rw [h]
      exact k3 i d (by omega) (by omega) (by omega)
  · rw [pr_cnt_add (P := V) (Q := fun m => V m ∨ m = s d) (pr_T_lt T hn.1) hn.2 (Or.inr rfl) (fun k _ hk => ⟨fun z => z.resolve_right hk, fun z => Or.inl z⟩), k6]
  · obtain ⟨hU, hs, hne⟩ := below m hm
    refine ⟨hU, fun z => ?_, fun i hi => ⟨fun z => ?_, fun z => ?_⟩⟩
    · rcases z with h | h
      · exact k5 d m (by omega) h hs
      · exact hne h
    · rcases Nat.le_total (Le (s i)) (Le (s d)) with h | h
      · exact k3 i d (by omega) (by omega) (by omega) (pr_cmp z.2 hs.2 h)
      · exact k3 d i (by omega) (by omega) (by omega) (pr_cmp hs.2 z.2 h)
    · exact k3 d i (by omega) (by omega) (by omega) (pr_sub_trans hs z)
theorem pr_K_skip {V : Nat → Prop} {s : Nat → Nat} {d step n b : Nat} (T : pr_T U B Le C rt) (hn : U n = true) (hb : b < 2) (e : C (2 * n + b) = none) (k : pr_K U B Le V s d step (pr_pd U B Le n b)) : pr_K U B Le V s d step (pr_pd U B Le n (b + 1)) := by
  obtain ⟨k1, k2, k3, k4, k5, k6, k7⟩ := k
  refine ⟨k1, k2, k3, fun m hm hv => ?_, k5, k6, fun m hm => ?_⟩
  · rcases k4 m hm hv with h | ⟨hU, b', h1, h2, hx⟩
    · exact Or.inl h
    · by_cases eb : b' = b
      · subst eb
        exact absurd ⟨hU, hx⟩ ((pr_child T hn hb).1 e m)
      · exact Or.inr ⟨hU, b', by omega, h2, hx⟩
  · obtain ⟨hU, b', h1, h2, hx⟩ := hm
    exact k7 m ⟨hU, b', by omega, h2, hx⟩
theorem pr_K_push {V : Nat → Prop} {s : Nat → Nat} {d step n b c : Nat} (T : pr_T U B Le C rt) (hn : U n = true) (hb : b < 2) (e : C (2 * n + b) = some c) (k : pr_K U B Le V s d step (pr_pd U B Le n b)) : pr_K U B Le V (pr_up s d c) (d + 1) step (pr_pd U B Le n (b + 1)) := by
  obtain ⟨k1, k2, k3, k4, k5, k6, k7⟩ := k
  have M := (pr_child T hn hb).2 c e
  have hcU := M.1.1
  have hc := k7 c ⟨hcU, b, Nat.le_refl _, hb, M.1.2⟩
  have sd : pr_up s d c d = c := pr_up_s
  have si : ∀ i, i < d → pr_up s d c i = s i := fun i hi => pr_up_n (by omega)
  have cs : ∀ i, i < d + 1 → (i < d ∧ pr_up s d c i = s i) ∨ (i = d ∧ pr_up s d c i = c) := by
    intro i hi
    by_cases ei : i = d
    · exact Or.inr ⟨ei, by rw [ei]; exact sd⟩
    · exact Or.inl ⟨by omega, si i (by omega)⟩
  refine ⟨k1, fun i hi => ?_, fun i j hi hj ne => ?_, fun m hm hv => ?_, fun i m hi hv => ?_, k6, fun m hm => ?_⟩
  · rcases cs i hi with ⟨h, z⟩ | ⟨h, z⟩
    · rw [z]
      exact k2 i h
    · rw [z]
      exact ⟨hcU, hc.2.1⟩
  · rcases cs i hi with ⟨h, z⟩ | ⟨h, z⟩
    · rcases cs j hj with ⟨h', z'⟩ | ⟨h', z'⟩
      · rw [z, z']
        exact k3 i j h h' ne
      · rw [z, z']
        exact (hc.2.2 i h).1
    · rcases cs j hj with ⟨h', z'⟩ | ⟨h', z'⟩
      · rw [z, z']
        exact (hc.2.2 j h').2
      · omega
  · rcases k4 m hm hv with ⟨i, hi, hs⟩ | ⟨hU, b', h1, h2, hx⟩
    · exact Or.inl ⟨i, by omega, by rw [si i hi]; exact hs⟩
    · by_cases eb : b' = b
      · subst eb
        exact Or.inl ⟨d, by omega, by rw [sd]; exact M.2 m ⟨hU, hx⟩⟩
      · exact Or.inr ⟨hU, b', by omega, h2, hx⟩
  · rcases cs i hi with ⟨h, z⟩ | ⟨h, z⟩
    · rw [z]
      exact k5 i m h hv
    · rw [z]
      intro hs
      exact (k7 m ⟨k1 m hv, b, Nat.le_refl _, hb, pr_ext_trans M.1.2 hs (pr_T_le T hcU)⟩).2.1 hv
  · obtain ⟨hU, b', h1, h2, hx⟩ := hm
    have h7 := k7 m ⟨hU, b', by omega, h2, hx⟩
    refine ⟨hU, h7.2.1, fun i hi => ?_⟩
    rcases cs i hi with ⟨h, z⟩ | ⟨h, z⟩
    · rw [z]
      exact h7.2.2 i h
    · rw [z]
      refine ⟨fun hs => ?_, fun hs => ?_⟩
      · have := (pr_ext_trans M.1.2 hs (pr_T_le T hcU)).2.2
        have h9 := hx.2.2
        omega
      · have := (pr_ext_trans hx hs (pr_T_le T hU)).2.2
        have h9 := M.1.2.2.2
        omega
theorem pr_abv_child {n b c : Nat} {o : Option Nat} (T : pr_T U B Le C rt) (hn : U n = true) (hb : b < 2) (e : C (2 * n + b) = some c) (h : pr_abv U B Le Pe n o) (o' : Option Nat) (ho : (Pe n ≠ none ∧ o' = some n) ∨ (Pe n = none ∧ o' = o)) : pr_abv U B Le Pe c o' := by
  have M := (pr_child T hn hb).2 c e
  have hcU := M.1.1
  have up : ∀ m, U m = true → Le m < Le c → pr_ag (Le m) (B m) (B c) → m = n ∨ (Le m < Le n ∧ pr_ag (Le m) (B m) (B n)) := by
    intro m hm hl hag
    rcases Nat.lt_trichotomy (Le m) (Le n) with h | h | h
    · exact Or.inr ⟨h, (pr_cmp hag M.1.2.2.1 (Nat.le_of_lt h)).2⟩
    · exact Or.inl (pr_sub_eq T hm hn (pr_cmp hag M.1.2.2.1 (by omega)) (by omega))
    · have := M.2 m ⟨hm, pr_ext_mid M.1.2 ⟨Nat.le_of_lt hl, hag⟩ h (pr_T_le T hm)⟩
      exact absurd this.1 (by omega)
  rcases ho with ⟨h1, h2⟩ | ⟨h1, h2⟩
  · subst h2
    refine ⟨(fun z => nomatch z), fun a ea => ?_⟩
    rw [← Option.some.inj ea]
    refine ⟨hn, h1, M.1.2.1, M.1.2.2.1, fun m hm _ hl hag => ?_⟩
    rcases up m hm hl hag with h | h
    · rw [h]
      exact Nat.le_refl _
    · exact Nat.le_of_lt h.1
  · subst h2
    refine ⟨fun z m hm hp hl hag => ?_, fun a ea => ?_⟩
    · rcases up m hm hl hag with h' | h'
      · rw [h'] at hp
        exact hp h1
      · exact h.1 z m hm hp h'.1 h'.2
    · have ha := h.2 a ea
      have l1 := M.1.2.1
      refine ⟨ha.1, ha.2.1, by omega, pr_ag_trans ha.2.2.2.1 (pr_ag_mono (Nat.le_of_lt ha.2.2.1) M.1.2.2.1), fun m hm hp hl hag => ?_⟩
      rcases up m hm hl hag with h' | h'
      · rw [h'] at hp
        exact absurd h1 hp
      · exact ha.2.2.2.2 m hm hp h'.1 h'.2
end
end
section
/-! settleAll: the sums -/
def pr_qi (o : Option Nat) : Nat := o.getD 8
theorem pr_qi_inj {o o' : Option Nat} (h : ∀ q, o = some q → q < 8) (h' : ∀ q, o' = some q → q < 8) (e : pr_qi o = pr_qi o') : o = o' := by
  unfold pr_qi at e
  cases o with
  | none => cases o' with
    | none => rfl
    | some q =>
      have := h' q rfl
      have e : 8 = q := e
      omega
  | some q => cases o' with
    | none =>
      have := h q rfl
      have e : q = 8 := e
      omega
    | some q' =>
      have e : q = q' := e
      rw [e]
theorem pr_qi_lt {o : Option Nat} (h : ∀ q, o = some q → q < 8) : pr_qi o < 9 := by
  cases o with
  | none => exact (by decide : 8 < 9)
  | some q =>
    have := h q rfl
    show q < 9
    omega
noncomputable def pr_bu (best : Nat → Option Nat) (l p n : Nat) (x : Nat) : Option Nat := @ite _ (pr_ag l p x) (Classical.propDecidable _) (some n) (best x)
theorem pr_bu_t {best : Nat → Option Nat} {l p n x : Nat} (h : pr_ag l p x) : pr_bu best l p n x = some n := by
  unfold pr_bu
  exact if_pos h
theorem pr_bu_f {best : Nat → Option Nat} {l p n x : Nat} (h : ¬ pr_ag l p x) : pr_bu best l p n x = best x := by
  unfold pr_bu
  exact if_neg h
def pr_S (B Le : Nat → Nat) (Pe : Nat → Option Nat) (V : Nat → Prop) (best : Nat → Option Nat) (a6 a7 : Nat → Int32) : Prop :=
  (∀ x, x < 65536 → pr_bst V B Le Pe x (best x)) ∧
  (∀ o : Option Nat, (∀ q, o = some q → q < 8) → a6 (pr_qi o) = nI (pr_cnt (fun x => (best x).bind Pe = o) 65536)) ∧
  (∀ k, V k → Pe k ≠ none → a7 k = nI (pr_cnt (fun x => best x = some k) 65536))
/-- a store that adds, then one that takes off -/
theorem pr_two {a6 : Nat → Int32} {i j w c c' sz : Nat} (h : a6 w = nI c) (e : c' + pr_i (j = w) * sz = c + pr_i (i = w) * sz) : upd (upd a6 i (a6 i + nI sz)) j (upd a6 i (a6 i + nI sz) j - nI sz) w = nI c' := by
  by_cases hj : j = w
  · subst hj
    rw [pk_us]
    rw [pr_i1 rfl] at e
    by_cases hi : i = j
    · subst hi
      rw [pk_us, h, nI_add, pk_sub (by omega)]
      rw [pr_i1 rfl] at e
      rw [show c + sz - sz = c' by omega]
    · rw [pr_i0 hi] at e
      rw [pk_un (fun z => hi z.symm), h, pk_sub (by omega), show c - sz = c' by omega]
  · rw [pk_un (fun z => hj z.symm)]
    rw [pr_i0 hj] at e
    by_cases hi : i = w
    · subst hi
      rw [pk_us, h, nI_add]
      rw [pr_i1 rfl] at e
      rw [show c + sz = c' by omega]
    · rw [pr_i0 hi] at e
      rw [pk_un (fun z => hi z.symm), h, show c = c' by omega]
section
variable {U : Nat → Bool} {B Le : Nat → Nat} {C : Nat → Option Nat} {rt : Option Nat} {Pe : Nat → Option Nat}
theorem pr_best_abv {V : Nat → Prop} {n x : Nat} {o ha : Option Nat} (T : pr_T U B Le C rt) (hVU : ∀ m, V m → U m = true) (hno : ∀ m, V m → ¬ pr_sub B Le n m) (hanc : ∀ m, U m = true → pr_sub B Le m n → m ≠ n → V m)
    (ab : pr_abv U B Le Pe n ha) (hx : pr_ag (Le n) (B n) x) (h : pr_bst V B Le Pe x o) : o = ha := by
  cases o with
  | none =>
    cases ha with
    | none => rfl
    | some a =>
      obtain ⟨h1, h2, h3, h4, _⟩ := ab.2 a rfl
      have hs : pr_sub B Le a n := ⟨Nat.le_of_lt h3, h4⟩
      exact absurd (pr_cov_sub hs hx) (h.1 rfl a (hanc a h1 hs (fun e => by rw [e] at h3; exact Nat.lt_irrefl _ h3)) h2)
  | some k =>
    obtain ⟨h1, h2, h3, h4⟩ := h.2 k rfl
    have lt : Le k < Le n := Nat.lt_of_not_le (fun z => hno k h1 (pr_cmp hx h3 z))
    have ag := (pr_cmp h3 hx (Nat.le_of_lt lt)).2
    cases ha with
    | none => exact absurd ag (ab.1 rfl k (hVU k h1) h2 lt)
    | some a =>
      obtain ⟨g1, g2, g3, g4, g5⟩ := ab.2 a rfl
      have hs : pr_sub B Le a n := ⟨Nat.le_of_lt g3, g4⟩
      have hc := pr_cov_sub hs hx
      have l1 := h4 a (hanc a g1 hs (fun e => by rw [e] at g3; exact Nat.lt_irrefl _ g3)) g2 hc
      have l2 := g5 k (hVU k h1) h2 lt ag
      rw [pr_sub_eq T (hVU k h1) g1 (pr_cmp h3 hc l2) l1]
theorem pr_S_visit {V : Nat → Prop} {best : Nat → Option Nat} {a6 a7 a7' : Nat → Int32} {n q : Nat} {ha : Option Nat} (T : pr_T U B Le C rt) (P : ∀ n q, U n = true → Pe n = some q → q < 8) (hVU : ∀ m, V m → U m = true) (hn : U n = true) (hnV : ¬ V n) (hno : ∀ m, V m → ¬ pr_sub B Le n m) (hanc : ∀ m, U m = true → pr_sub B Le m n → m ≠ n → V m)
    (hq : Pe n = some q) (ab : pr_abv U B Le Pe n ha) (S : pr_S B Le Pe V best a6 a7)
    (h7n : a7' n = nI (2 ^ (16 - Le n))) (h7a : ∀ a, ha = some a → a7' a = a7 a - nI (2 ^ (16 - Le n))) (h7o : ∀ k, k ≠ n → ha ≠ some k → a7' k = a7 k) :
    pr_S B Le Pe (fun m => V m ∨ m = n) (pr_bu best (Le n) (B n) n) (upd (upd a6 q (a6 q + nI (2 ^ (16 - Le n)))) (pr_qi (ha.bind Pe)) (upd a6 q (a6 q + nI (2 ^ (16 - Le n))) (pr_qi (ha.bind Pe)) - nI (2 ^ (16 - Le n)))) a7' := by
  obtain ⟨s1, s2, s3⟩ := S
  have tn := T.1 n hn
  have hend := pr_end_le tn.2.1 tn.2.2.1 tn.2.2.2
  have iv : ∀ x, pr_ag (Le n) (B n) x ↔ B n ≤ x ∧ x < B n + 2 ^ (16 - Le n) := fun x => pr_ag_iv tn.2.2.2
  have hq8 := P n q hn hq
  have hb : ∀ x, x < 65536 → pr_ag (Le n) (B n) x → best x = ha := fun x hx hag => pr_best_abv T hVU hno hanc ab hag (s1 x hx)
  have hbn : ∀ x, x < 65536 → best x ≠ some n := fun x hx e => hnV ((s1 x hx).2 n e).1
  have hu8 : ∀ q', ha.bind Pe = some q' → q' < 8 := by
    intro q' e
    cases ha with
    | none => exact nomatch e
    | some a => exact P a q' (ab.2 a rfl).1 e
  generalize hsz : 2 ^ (16 - Le n) = sz at *
  refine ⟨fun x hx => ?_, fun o ho => ?_, fun k hk hp => ?_⟩
  · by_cases hag : pr_ag (Le n) (B n) x
    · rw [pr_bu_t hag]
      refine ⟨(fun z => nomatch z), fun k e => ?_⟩
      rw [← Option.some.inj e]
      refine ⟨Or.inr rfl, pr_sn hq, hag, fun m hm hp hmx => ?_⟩
      rcases hm with h | h
      · exact Nat.le_of_lt (Nat.lt_of_not_le (fun z => hno m h (pr_cmp hag hmx z)))
      · rw [h]
        exact Nat.le_refl _
    · rw [pr_bu_f hag]
      have h := s1 x hx
      refine ⟨fun e m hm hp hmx => ?_, fun k e => ?_⟩
      · rcases hm with h' | h'
        · exact h.1 e m h' hp hmx
        · rw [h'] at hmx
          exact hag hmx
      · obtain ⟨h1, h2, h3, h4⟩ := h.2 k e
        refine ⟨Or.inl h1, h2, h3, fun m hm hp hmx => ?_⟩
        rcases hm with h' | h'
        · exact h4 m h' hp hmx
        · rw [h'] at hmx
          exact absurd hmx hag
  · refine pr_two (s2 o ho) ?_
    have := pr_cnt_chg (f := fun x => (best x).bind Pe) (g := fun x => (pr_bu best (Le n) (B n) n x).bind Pe) (a := B n) (s := sz) (n := 65536) (u := ha.bind Pe) (v := some q) o (by omega) (fun x h1 h2 => by show (best x).bind Pe = _; rw [hb x (by omega) ((iv x).mpr ⟨h1, h2⟩)]) (fun x h1 h2 => by show (pr_bu best (Le n) (B n) n x).bind Pe = _; rw [pr_bu_t ((iv x).mpr ⟨h1, h2⟩)]; exact hq) (fun x hx hno => by show (pr_bu best (Le n) (B n) n x).bind Pe = _; rw [pr_bu_f (fun z => hno ((iv x).mp z))])
    rw [pr_i_congr (p := pr_qi (ha.bind Pe) = pr_qi o) (q := ha.bind Pe = o) ⟨fun e => pr_qi_inj hu8 ho e, fun e => by rw [e]⟩, pr_i_congr (p := q = pr_qi o) (q := some q = o) ⟨fun e => pr_qi_inj (o := some q) (fun q' e' => by rw [← Option.some.inj e']; exact hq8) ho e, fun e => by rw [← e]; rfl⟩]
    exact this
  · have chg := pr_cnt_chg (f := best) (g := pr_bu best (Le n) (B n) n) (a := B n) (s := sz) (n := 65536) (u := ha) (v := some n) (some k) (by omega) (fun x h1 h2 => hb x (by omega) ((iv x).mpr ⟨h1, h2⟩)) (fun x h1 h2 => pr_bu_t ((iv x).mpr ⟨h1, h2⟩)) (fun x hx hno => pr_bu_f (fun z => hno ((iv x).mp z)))
    by_cases hkn : k = n
    · subst hkn
      have hne : ha ≠ some k := by
        intro e
        have := (ab.2 k e).2.2.1
        omega
      rw [pr_i0 hne, pr_i1 rfl, pr_cnt_zero (P := fun x => best x = some k) (fun x hx => hbn x hx)] at chg
      rw [h7n]
      exact congrArg nI (by omega)
    · have hV : V k := hk.resolve_right hkn
      rw [pr_i0 (p := some n = some k) (fun e => hkn (Option.some.inj e).symm)] at chg
      by_cases hak : ha = some k
      · rw [pr_i1 hak] at chg
        rw [h7a k hak, s3 k hV hp, pk_sub (by omega)]
        exact congrArg nI (by omega)
      · rw [pr_i0 hak] at chg
        rw [h7o k hkn hak, s3 k hV hp]
        exact congrArg nI (by omega)
/-- a fork is visited -/
theorem pr_S_fork {V : Nat → Prop} {best : Nat → Option Nat} {a6 a7 : Nat → Int32} {n : Nat} (hq : Pe n = none) (S : pr_S B Le Pe V best a6 a7) : pr_S B Le Pe (fun m => V m ∨ m = n) best a6 a7 := by
  obtain ⟨s1, s2, s3⟩ := S
  have hV : ∀ m, (V m ∨ m = n) → Pe m ≠ none → V m := by
    intro m hm hp
    rcases hm with h | h
    · exact h
    · rw [h] at hp
      exact absurd hq hp
  refine ⟨fun x hx => ?_, s2, fun k hk hp => s3 k (hV k hk hp) hp⟩
  have h := s1 x hx
  refine ⟨fun e m hm hp => h.1 e m (hV m hm hp) hp, fun k e => ?_⟩
  obtain ⟨h1, h2, h3, h4⟩ := h.2 k e
  exact ⟨Or.inl h1, h2, h3, fun m hm hp => h4 m (hV m hm hp) hp⟩
end
end
section
/-! settleAll, walked -/
def pr_A (U : Nat → Bool) (B Le : Nat → Nat) (Pe : Nat → Option Nat) (V : Nat → Prop) (s : Nat → Nat) (d : Nat) (a8 a9 : Nat → Int32) : Prop :=
  (∀ k, (V k ∨ ∃ i, i < d ∧ s i = k) → ∃ o, a8 k = pr_oI o ∧ pr_abv U B Le Pe k o) ∧ ∀ i, i < d → a9 i = nI (s i)
section
variable {U : Nat → Bool} {B Le : Nat → Nat} {C : Nat → Option Nat} {rt : Option Nat} {Pe : Nat → Option Nat}
theorem pr_w_v99 {post : Int32 → St1 → Prop} {h1 h2 h3 h4 h5 : Int32} {a1 a2 a3 a4 a6 a7 a8 a9 : Nat → Int32} {V : Nat → Prop} {s : Nat → Nat} {d step n : Nat} {o o' : Option Nat} (T : pr_T U B Le C rt) (hn : U n = true) (ab : pr_abv U B Le Pe n o) (ho : (Pe n ≠ none ∧ o' = some n) ∨ (Pe n = none ∧ o' = o))
    (k : pr_K U B Le V s d step (pr_pd U B Le n 0)) (A : pr_A U B Le Pe V s d a8 a9)
    (H : ∀ s' d' a8' a9', pr_K U B Le V s' d' step (fun _ => False) → pr_A U B Le Pe V s' d' a8' a9' → post (nI d') (h1, h2, h3, h4, h5, a1, a2, a3, a4, pr_oA C, a6, a7, a8', a9')) :
    ∃ fu, wX_visit_99 post (nI n) (pr_oI o') h1 h2 h3 h4 h5 fu (nI d) 0 a1 a2 a3 a4 (pr_oA C) a6 a7 a8 a9 := by
  have hn64 := pr_T_lt T hn
  have key : ∀ m b d s a8 a9, 2 < b + m → b ≤ 2 → pr_K U B Le V s d step (pr_pd U B Le n b) → pr_A U B Le Pe V s d a8 a9 → wX_visit_99 post (nI n) (pr_oI o') h1 h2 h3 h4 h5 m (nI d) (nI b) a1 a2 a3 a4 (pr_oA C) a6 a7 a8 a9 := by
    intro m
    induction m with
    | zero =>
      intro b d s a8 a9 h1 h2
      omega
    | succ m ih =>
      intro b d s a8 a9 hm hb2 k A
      refine pk_le 2 b (fun z => ?_) (fun z => ?_)
      · refine H s d a8 a9 ⟨k.1, k.2.1, k.2.2.1, fun m hm hv => ?_, k.2.2.2.2.1, k.2.2.2.2.2.1, fun m hm => hm.elim⟩ A
        rcases k.2.2.2.1 m hm hv with h | ⟨_, b', h1, h2, _⟩
        · exact Or.inl h
        · omega
      · refine ⟨pk_in (2 * n + b) 128 (by omega) (pr_ix n b), nm_r (pr_rd C hn64 (by omega)) ?_⟩
        refine pr_oI_neg (o := C (2 * n + b)) (fun c e => by have := pr_T_lt T ((pr_child T hn (by omega)).2 c e).1.1; omega) (fun e => nm_r (nI_1 b) (ih (b + 1) d s a8 a9 (by omega) (by omega) (pr_K_skip T hn (by omega) e k) A)) (fun c e => ?_)
        have hc64 := pr_T_lt T ((pr_child T hn (by omega)).2 c e).1.1
        have k' := pr_K_push T hn (show b < 2 by omega) e k
        have hr := pr_K_room T k'
        rw [e, show pr_oI (some c) = nI c from rfl]
        refine ⟨pk_in c 64 hc64, nm_r (e' := upd a8 c (pr_oI o')) (by rw [nI_clamp (by omega)]) ⟨pk_in d 64 (by omega), nm_r (e' := upd a9 d (nI c)) (by rw [nI_clamp (by omega)]) (nm_r (nI_1 d) (nm_r (nI_1 b) (ih (b + 1) (d + 1) (pr_up s d c) _ _ (by omega) (by omega) k' ⟨fun j hj => ?_, fun i hi => ?_⟩)))⟩⟩
        · by_cases ej : j = c
          · subst ej
            exact ⟨o', pk_us, pr_abv_child T hn (show b < 2 by omega) e ab o' ho⟩
          · rw [pk_un ej]
            refine A.1 j ?_
            rcases hj with h | ⟨i, hi, h⟩
            · exact Or.inl h
            · by_cases ei : i = d
              · rw [ei, pr_up_s] at h
                exact absurd h.symm ej
              · rw [pr_up_n ei] at h
                exact Or.inr ⟨i, by omega, h⟩
        · by_cases ei : i = d
          · rw [ei, pk_us, pr_up_s]
          · rw [pk_un ei, pr_up_n ei]
            exact A.2 i (by omega)
  exact ⟨3, key 3 0 d s a8 a9 (by omega) (by omega) k A⟩
theorem pr_w_visit {post : Int32 → St1 → Prop} {h1 h2 h3 h4 h5 : Int32} {a1 a6 a7 a8 a9 : Nat → Int32} {V : Nat → Prop} {s : Nat → Nat} {d step : Nat} {best : Nat → Option Nat} (T : pr_T U B Le C rt) (P : ∀ n q, U n = true → Pe n = some q → q < 8)
    (k : pr_K U B Le V s (d + 1) step (fun _ => False)) (S : pr_S B Le Pe V best a6 a7) (A : pr_A U B Le Pe V s (d + 1) a8 a9)
    (H : ∀ V' s' d' best' a6' a7' a8' a9', pr_K U B Le V' s' d' (step + 1) (fun _ => False) → pr_S B Le Pe V' best' a6' a7' → pr_A U B Le Pe V' s' d' a8' a9' → post (nI d') (h1, h2, h3, h4, h5, a1, pr_nA B, pr_nA Le, pr_oA Pe, pr_oA C, a6', a7', a8', a9')) :
    wpX_visit post (h1, h2, h3, h4, h5, a1, pr_nA B, pr_nA Le, pr_oA Pe, pr_oA C, a6, a7, a8, a9) (nI (s d)) (nI d) := by
  have k' := pr_K_pop T k
  have hnU := (k.2.1 d (by omega)).1
  have hnV := (k.2.1 d (by omega)).2
  have hno : ∀ m, V m → ¬ pr_sub B Le (s d) m := fun m hm => k.2.2.2.2.1 d m (by omega) hm
  have hanc : ∀ m, U m = true → pr_sub B Le m (s d) → m ≠ s d → V m := by
    intro m hm hs ne
    refine Classical.byContradiction (fun hv => ?_)
    rcases k.2.2.2.1 m hm hv with ⟨i, hi, h⟩ | h
    · by_cases ei : i = d
      · rw [ei] at h
        exact ne (pr_sub_eq T hm hnU hs h.1)
      · exact k.2.2.1 i d (by omega) (by omega) ei (pr_sub_trans h hs)
    · exact h
  obtain ⟨o, h8, ab⟩ := A.1 (s d) (Or.inr ⟨d, by omega, rfl⟩)
  have A' : pr_A U B Le Pe (fun m => V m ∨ m = s d) s d a8 a9 := by
    refine ⟨fun j hj => A.1 j ?_, fun i hi => A.2 i (by omega)⟩
    rcases hj with (h | h) | ⟨i, hi, h⟩
    · exact Or.inl h
    · exact Or.inr ⟨d, by omega, h.symm⟩
    · exact Or.inr ⟨i, by omega, h⟩
  have tn := T.1 (s d) hnU
  generalize s d = n at *
  unfold wpX_visit
  dsimp only
  refine ⟨pk_in n 64 tn.1, ?_⟩
  rw [nI_clamp (show n < 2 ^ 31 by omega)]
  refine nm_r h8 ⟨pk_in n 64 tn.1, ?_⟩
  refine pr_oI_neg (o := Pe n) (fun q e => by have := P n q hnU e; omega) (fun e => ?_) (fun q e => ?_)
  · exact pr_w_v99 T hnU ab (Or.inr ⟨e, rfl⟩) k' A' (fun s' d' a8' a9' k2 A2 => H _ s' d' best a6 a7 a8' a9' k2 (pr_S_fork e S) A2)
  · have e4 : pr_oA Pe n = nI q := by
      unfold pr_oA
      rw [e]
      rfl
    have hq8 := P n q hnU e
    have hsz := pr_size (Le n) (by omega)
    have fin : ∀ a7', a7' n = nI (2 ^ (16 - Le n)) → (∀ a, o = some a → a7' a = a7 a - nI (2 ^ (16 - Le n))) → (∀ k, k ≠ n → o ≠ some k → a7' k = a7 k) → ∃ fu, wX_visit_99 post (nI n) (nI n) h1 h2 h3 h4 h5 fu (nI d) 0 a1 (pr_nA B) (pr_nA Le) (pr_oA Pe) (pr_oA C) (upd (upd a6 q (a6 q + nI (2 ^ (16 - Le n)))) (pr_qi (o.bind Pe)) (upd a6 q (a6 q + nI (2 ^ (16 - Le n))) (pr_qi (o.bind Pe)) - nI (2 ^ (16 - Le n)))) a7' a8 a9 := by
      intro a7' g1 g2 g3
      have S' := pr_S_visit T P k.1 hnU hnV hno hanc e ab S g1 g2 g3
      exact pr_w_v99 (o' := some n) T hnU ab (Or.inl ⟨pr_sn e, rfl⟩) k' A' (fun s' d' a8' a9' k2 A2 => H _ s' d' _ _ a7' a8' a9' k2 S' A2)
    refine ⟨pk_in n 64 tn.1, nm_r hsz ⟨pk_in n 64 tn.1, nm_e ⟨pk_in n 64 tn.1, ?_⟩⟩⟩
    rw [e4, nI_clamp (show q < 2 ^ 31 by omega)]
    refine ⟨pk_in q 9 (by omega), pk_in q 9 (by omega), nm_e ?_⟩
    have ao : ∀ a, o = some a → a ≠ n := fun a ea z => by
      have := (ab.2 a ea).2.2.1
      rw [z] at this
      exact Nat.lt_irrefl _ this
    refine pr_oI_pos (fun a ea => by have := pr_T_lt T (ab.2 a ea).1; omega) (fun a ea => ?_) (fun eo => ?_)
    · have ha := ab.2 a ea
      have ha64 := pr_T_lt T ha.1
      obtain ⟨qa, hqa⟩ := pr_ne_none ha.2.1
      have hqa8 := P a qa ha.1 hqa
      subst ea
      rw [show pr_oI (some a) = nI a from rfl]
      refine ⟨pk_in a 64 ha64, ?_⟩
      rw [nI_clamp (show a < 2 ^ 31 by omega)]
      have e5 : pr_oA Pe a = nI qa := by
        unfold pr_oA
        rw [hqa]
        rfl
      have e6 : pr_qi ((some a).bind Pe) = qa := by
        show pr_qi (Pe a) = qa
        rw [hqa]
        rfl
      rw [e5]
      rw [e6] at fin
      unfold wX_visit_70
      rw [nI_clamp (show qa < 2 ^ 31 by omega)]
      refine ⟨pk_in qa 9 (by omega), pk_in qa 9 (by omega), nm_e (br_f (nI_pos (by omega)) ⟨pk_in a 64 ha64, pk_in a 64 ha64, nm_e ?_⟩)⟩
      rw [nI_clamp (show a < 2 ^ 31 by omega)]
      refine fin _ ?_ (fun b eb => ?_) (fun k hk hb => ?_)
      · rw [pk_un (fun z => ao a rfl z.symm), pk_us]
      · rw [← Option.some.inj eb, pk_us, pk_un (ao a rfl)]
      · rw [pk_un (fun z => hb (by rw [z])), pk_un hk]
    · subst eo
      unfold wX_visit_70
      refine ⟨pk_in 8 9 (by omega), pk_in 8 9 (by omega), nm_e (br_t (by decide) ?_)⟩
      refine fin _ pk_us (fun b eb => nomatch eb) (fun k hk hb => pk_un hk)
theorem pr_w_settleAll {post : St1 → Prop} {h1 h3 h4 h5 : Int32} {a1 a6 a7 a8 a9 : Nat → Int32} (T : pr_T U B Le C rt) (P : ∀ n q, U n = true → Pe n = some q → q < 8)
    (H : ∀ best a6' a7' a8' a9', pr_S B Le Pe (fun m => U m = true) best a6' a7' → (∀ k, U k = true → ∃ o, a8' k = pr_oI o ∧ pr_abv U B Le Pe k o) → post (h1, pr_oI rt, h3, h4, h5, a1, pr_nA B, pr_nA Le, pr_oA Pe, pr_oA C, a6', a7', a8', a9')) :
    wpX_settleAll post (h1, pr_oI rt, h3, h4, h5, a1, pr_nA B, pr_nA Le, pr_oA Pe, pr_oA C, a6, a7, a8, a9) := by
  have key : ∀ m step d V s best a6 a7 a8 a9, 64 < step + m → pr_K U B Le V s d step (fun _ => False) → pr_S B Le Pe V best a6 a7 → pr_A U B Le Pe V s d a8 a9 → wX_settleAll_63 post m (nI d) (nI step) h1 (pr_oI rt) h3 h4 h5 a1 (pr_nA B) (pr_nA Le) (pr_oA Pe) (pr_oA C) a6 a7 a8 a9 := by
    intro m
    induction m with
    | zero =>
      intro step d V s best a6 a7 a8 a9 hm k
      have := pr_K_room T k
      omega
    | succ m ih =>
      intro step d V s best a6 a7 a8 a9 hm k S A
      have hr := pr_K_room T k
      have fin : (∀ j, U j = true → V j) → post (h1, pr_oI rt, h3, h4, h5, a1, pr_nA B, pr_nA Le, pr_oA Pe, pr_oA C, a6, a7, a8, a9) := by
        intro hV
        have eV : V = fun m => U m = true := funext (fun j => propext ⟨k.1 j, hV j⟩)
        subst eV
        exact H best a6 a7 a8 a9 S (fun j hj => A.1 j (Or.inl hj))
      refine pk_le 64 step (fun z => fin (fun j hj => ?_)) (fun z => ?_)
      · exact pr_cnt_full (P := V) (n := 64) (by rw [k.2.2.2.2.2.1]; exact z) j (pr_T_lt T hj)
      · refine pk_le d 0 (fun z => fin (fun j hj => ?_)) (fun z => ?_)
        · refine Classical.byContradiction (fun hv => ?_)
          rcases k.2.2.2.1 j hj hv with ⟨i, hi, _⟩ | h
          · omega
          · exact h
        · obtain ⟨e, rfl⟩ : ∃ e, d = e + 1 := ⟨d - 1, by omega⟩
          rw [nI_pred e]
          refine ⟨pk_in e 64 (by omega), nm_r (e' := nI (s e)) (by rw [nI_clamp (by omega)]; exact A.2 e (by omega)) ?_⟩
          refine pr_w_visit T P k S A (fun V' s' d' best' a6' a7' a8' a9' k2 S2 A2 => ?_)
          dsimp only
          exact nm_r (nI_1 step) (ih (step + 1) d' V' s' best' a6' a7' a8' a9' (by omega) k2 S2 A2)
  have key2 : ∀ m i a6, 9 < i + m → i ≤ 9 → (∀ j, j < i → a6 j = 0) → wX_settleAll_2 post h1 (pr_oI rt) h3 h4 h5 m (nI i) a1 (pr_nA B) (pr_nA Le) (pr_oA Pe) (pr_oA C) a6 a7 a8 a9 := by
    intro m
    induction m with
    | zero =>
      intro i a6 h1 h2
      omega
    | succ m ih =>
      intro i a6 hm hi ha
      refine pk_le 9 i (fun z => nm_e ?_) (fun z => ⟨pk_in i 9 z, nm_r (e' := upd a6 i 0) (by rw [nI_clamp (by omega)]) (nm_r (nI_1 i) (ih (i + 1) _ (by omega) (by omega) (fun j hj => ?_)))⟩)
      · have S0 : ∀ a7, pr_S B Le Pe (fun _ => False) (fun _ => none) (upd a6 8 65536) a7 := by
          intro a7
          refine ⟨fun x hx => ⟨fun _ m hm => hm.elim, fun k e => nomatch e⟩, fun o ho => ?_, fun k hk => hk.elim⟩
          cases o with
          | none =>
            rw [show pr_qi none = 8 from rfl, pk_us, show pr_cnt (fun x => ((fun _ => (none : Option Nat)) x).bind Pe = none) 65536 = 65536 from pr_cnt_all (fun x _ => rfl)]
            rfl
          | some q =>
            have hq := ho q rfl
            rw [show pr_qi (some q) = q from rfl, pk_un (by omega), ha q (by omega), pr_cnt_zero (fun x _ e => nomatch e)]
            rfl
        have R := pr_root T
        refine pr_oI_neg (o := rt) (fun r e => by have := pr_T_lt T (R.2 r e).1; omega) (fun e => ?_) (fun r e => ?_)
        · exact ⟨65, key 65 0 0 (fun _ => False) (fun _ => 0) _ _ _ _ _ (by omega) ⟨fun m hm => hm.elim, fun i hi => absurd hi (by omega), fun i j hi => absurd hi (by omega), fun m hm _ => absurd hm (R.1 e m), fun i m hi => absurd hi (by omega), pr_cnt_zero (fun k _ z => z), fun m hm => hm.elim⟩ (S0 a7) ⟨fun k hk => by
            rcases hk with h | ⟨i, hi, _⟩
            · exact h.elim
            · omega, fun i hi => absurd hi (by omega)⟩⟩
        · have hr := (R.2 r e).1
          have hr64 := pr_T_lt T hr
          refine nm_r (e' := upd a9 0 (nI r)) (by rw [e]; rfl) ⟨pk_in r 64 hr64 (by rw [e]; rfl), nm_r (e' := upd a8 r (-1)) (by rw [e]; rw [show (pr_oI (some r)).toNatClampNeg = r from nI_clamp (by omega)]) ?_⟩
          refine ⟨65, key 65 0 1 (fun _ => False) (fun _ => r) _ _ _ _ _ (by omega) ⟨fun m hm => hm.elim, fun i hi => ⟨hr, fun z => z⟩, fun i j hi hj ne => absurd ne (by omega), fun m hm _ => Or.inl ⟨0, by omega, (R.2 r e).2 m hm⟩, fun i m hi hv => hv.elim, pr_cnt_zero (fun k _ z => z), fun m hm => hm.elim⟩ (S0 a7) ⟨fun k hk => ?_, fun i hi => ?_⟩⟩
          · rcases hk with h | ⟨i, hi, h⟩
            · exact h.elim
            · subst h
              refine ⟨none, pk_us, fun _ m hm _ hl => ?_, fun a ea => nomatch ea⟩
              have := ((R.2 _ e).2 m hm).1
              exact absurd hl (Nat.not_lt.mpr this)
          · rw [show i = 0 by omega]
            exact pk_us
      · by_cases ej : j = i
        · rw [ej]
          exact pk_us
        · rw [pk_un ej]
          exact ha j (by omega)
  exact ⟨10, key2 10 0 a6 (by omega) (by omega) (fun j hj => absurd hj (by omega))⟩
end
end
section
/-! owned, useless, entries -/
theorem pr_bA_br {U : Nat → Bool} {k : Nat} {A B : Prop} (f : U k = false → A) (g : U k = true → B) : (pr_bA U k = 0 → A) ∧ (¬ pr_bA U k = 0 → B) := by
  unfold pr_bA
  cases e : U k with
  | false => exact br_t rfl (f e)
  | true => exact br_f (by decide) (g e)
theorem pr_oI_eq {o o' : Option Nat} {A B : Prop} (h : ∀ k, o = some k → k < 2 ^ 31) (h' : ∀ k, o' = some k → k < 2 ^ 31) (f : o = o' → A) (g : o ≠ o' → B) : (pr_oI o = pr_oI o' → A) ∧ (¬ pr_oI o = pr_oI o' → B) :=
  ⟨fun e => f (pr_oI_inj h h' e), fun e => g (fun z => e (by rw [z]))⟩
theorem pr_q1 : ∀ q, q < 8 → ¬ nI q < (-1) := by decide +kernel
theorem pr_o1 {o : Option Nat} (h : ∀ q, o = some q → q < 8) : ¬ pr_oI o < (-1) := by
  cases o with
  | none => decide
  | some q => exact pr_q1 q (h q rfl)
theorem pr_o7 {o : Option Nat} (h : ∀ q, o = some q → q < 8) : pr_oI o ≤ 7 := by
  cases o with
  | none => decide
  | some q =>
    have := h q rfl
    exact nI_le (b := 7) (by omega) (by decide)
theorem pr_w_owned {post : Int32 → St1 → Prop} {E : Nat → Nat → Nat → Prop} {hd : Nat} {u : St1} {o : Option Nat} (ok : pr_OK E hd u) (ho : ∀ q, o = some q → q < 8)
    (H : ∀ u', pr_OK E hd u' → post (nI (pr_cnt (fun x => pr_pe E x = o) 65536)) u') : wpX_owned post u (pr_oI o) := by
  obtain ⟨U, B, Le, Pe, C, rt, fr, ab, fu, a6, a7, a8, a9, g, hE, hu⟩ := ok
  subst hu
  subst hE
  have g0 := g
  obtain ⟨T, P, F, hc, h32, L⟩ := g
  unfold wpX_owned
  dsimp only
  refine br_f (pr_o1 ho) (br_t (pr_o7 ho) ?_)
  refine pr_w_settleAll T P (fun best a6' a7' a8' a9' S _ => ?_)
  dsimp only
  have e : a6' (pr_qi o) = nI (pr_cnt (fun x => pr_pe (pr_E U B Le Pe) x = o) 65536) := by
    rw [S.2.1 o ho]
    exact congrArg nI (pr_cnt_congr (fun x hx => by rw [pr_bst_pe T P (S.1 x hx)]))
  refine pr_oI_pos (fun q eq => by have := ho q eq; omega) (fun q eq => ?_) (fun eq => ?_)
  · have hq := ho q eq
    subst eq
    refine ⟨pk_in q 9 (by omega), ?_⟩
    rw [show (pr_oI (some q)).toNatClampNeg = q from nI_clamp (by omega), show a6' q = _ from e]
    exact H _ ⟨U, B, Le, Pe, C, rt, fr, ab, fu, a6', a7', a8', a9', g0, rfl, rfl⟩
  · subst eq
    rw [show a6' 8 = _ from e]
    exact H _ ⟨U, B, Le, Pe, C, rt, fr, ab, fu, a6', a7', a8', a9', g0, rfl, rfl⟩
section
variable {U : Nat → Bool} {B Le : Nat → Nat} {C : Nat → Option Nat} {rt : Option Nat} {Pe : Nat → Option Nat}
theorem pr_usl_iff {best : Nat → Option Nat} {i q : Nat} {o : Option Nat} (T : pr_T U B Le C rt) (P : ∀ n q, U n = true → Pe n = some q → q < 8) (hb : ∀ x, x < 65536 → pr_bst (fun m => U m = true) B Le Pe x (best x)) (hi : U i = true) (hq : Pe i = some q) (ab : pr_abv U B Le Pe i o) :
    pr_usl (pr_E U B Le Pe) (Le i) (B i) q ↔ (pr_cnt (fun x => best x = some i) 65536 = 0 ∨ ∃ a, o = some a ∧ Pe a = some q) := by
  have first : (∀ x, x < 65536 → pr_ag (Le i) (B i) x → ∀ r, pr_own (pr_E U B Le Pe) x = some r → r.1 ≠ Le i) ↔ pr_cnt (fun x => best x = some i) 65536 = 0 := by
    constructor
    · intro h
      refine pr_cnt_zero (fun x hx e => ?_)
      have hbx := hb x hx
      rw [e] at hbx
      exact h x hx (hbx.2 i rfl).2.2.1 (Le i, q) (by rw [pr_bst_own T P hbx, pr_res_some hq]) rfl
    · intro h x hx hag r hr e
      have hne := pr_cnt_none h x hx
      have hbx := hb x hx
      rw [pr_bst_own T P hbx] at hr
      cases eb : best x with
      | none =>
        rw [eb] at hr
        exact nomatch hr
      | some k =>
        rw [eb] at hr hbx
        obtain ⟨k1, k2, k3, k4⟩ := hbx.2 k rfl
        obtain ⟨qk, hqk⟩ := pr_ne_none k2
        rw [pr_res_some hqk] at hr
        have hr := Option.some.inj hr
        rw [← hr] at e
        have e : Le k = Le i := e
        have : k = i := pr_sub_eq T k1 hi (pr_cmp k3 hag (by omega)) (by omega)
        rw [this] at eb
        exact hne eb
  have second : (∃ l' p', pr_E U B Le Pe l' p' q ∧ l' < Le i ∧ pr_ag l' p' (B i) ∧ ∀ l'' p'' q'', pr_E U B Le Pe l'' p'' q'' → l'' < Le i → pr_ag l'' p'' (B i) → l'' ≤ l') ↔ ∃ a, o = some a ∧ Pe a = some q := by
    constructor
    · rintro ⟨l', p', ⟨m, hm, rfl, rfl, hqm⟩, hl, hag, hmax⟩
      cases eo : o with
      | none => exact absurd hag (ab.1 eo m hm (pr_sn hqm) hl)
      | some a =>
        obtain ⟨a1, a2, a3, a4, a5⟩ := ab.2 a eo
        obtain ⟨qa, hqa⟩ := pr_ne_none a2
        have l1 := a5 m hm (pr_sn hqm) hl hag
        have l2 := hmax (Le a) (B a) qa ⟨a, a1, rfl, rfl, hqa⟩ a3 a4
        have : m = a := pr_sub_eq T hm a1 (pr_cmp hag a4 l1) l2
        exact ⟨a, rfl, by rw [← this]; exact hqm⟩
    · rintro ⟨a, eo, hqa⟩
      obtain ⟨a1, a2, a3, a4, a5⟩ := ab.2 a eo
      refine ⟨Le a, B a, ⟨a, a1, rfl, rfl, hqa⟩, a3, a4, ?_⟩
      rintro l'' p'' q'' ⟨m, hm, rfl, rfl, hqm⟩ hl hag
      exact a5 m hm (pr_sn hqm) hl hag
  unfold pr_usl
  rw [first, second]
end
theorem pr_w_useless {post : Int32 → St1 → Prop} {E : Nat → Nat → Nat → Prop} {hd : Nat} {u : St1} (ok : pr_OK E hd u)
    (H : ∀ u', pr_OK E hd u' → post (nI (pr_kc E (pr_usl E))) u') : wpX_useless post u := by
  obtain ⟨U, B, Le, Pe, C, rt, fr, ab, fu, a6, a7, a8, a9, g, hE, hu⟩ := ok
  subst hu
  have g0 := g
  obtain ⟨T, P, F, hc, h32, L⟩ := g
  unfold wpX_useless
  dsimp only
  refine pr_w_settleAll T P (fun best a6' a7' a8' a9' S hab => ?_)
  dsimp only
  have key : ∀ m i, 64 < i + m → i ≤ 64 → wX_useless_8 post (nI hd) (pr_oI rt) (pr_oI fr) ab fu (pr_bA U) (pr_nA B) (pr_nA Le) (pr_oA Pe) (pr_oA C) a6' a7' a8' a9' m (nI (pr_cnt (fun k => U k = true ∧ ∃ q, Pe k = some q ∧ pr_usl E (Le k) (B k) q) i)) (nI i) := by
    intro m
    induction m with
    | zero =>
      intro i h1 h2
      omega
    | succ m ih =>
      intro i hm hi
      have next := ih (i + 1)
      rw [pr_cnt_s] at next
      refine pk_le 64 i (fun z => ?_) (fun z => ⟨pk_in i 64 z, ?_⟩)
      · rw [show i = 64 by omega, pr_kc_eq T (pr_usl E), hE]
        exact H _ ⟨U, B, Le, Pe, C, rt, fr, ab, fu, a6', a7', a8', a9', g0, hE, rfl⟩
      · rw [nI_clamp (show i < 2 ^ 31 by omega)]
        refine pr_bA_br (fun eu => nm_r (nI_1 i) ?_) (fun eu => ⟨pk_in i 64 z, ?_⟩)
        · rw [pr_i0 (fun w => by rw [eu] at w; exact nomatch w.1)] at next
          exact next (by omega) (by omega)
        · refine pr_oI_neg (o := Pe i) (fun q e => by have := P i q eu e; omega) (fun e => nm_r (nI_1 i) ?_) (fun q e => ⟨pk_in i 64 z, ?_⟩)
          · rw [pr_i0 (fun w => by obtain ⟨_, q, hq, _⟩ := w; rw [e] at hq; exact nomatch hq)] at next
            exact next (by omega) (by omega)
          · obtain ⟨o, h8, hab⟩ := hab i eu
            have iff := pr_usl_iff T P S.1 eu e hab
            rw [hE] at iff
            have h7 : a7' i = nI (pr_cnt (fun x => best x = some i) 65536) := S.2.2 i eu (pr_sn e)
            have hcle := pr_cnt_le (fun x => best x = some i) 65536
            have yes : pr_usl E (Le i) (B i) q → wX_useless_8 post (nI hd) (pr_oI rt) (pr_oI fr) ab fu (pr_bA U) (pr_nA B) (pr_nA Le) (pr_oA Pe) (pr_oA C) a6' a7' a8' a9' m (nI (pr_cnt (fun k => U k = true ∧ ∃ q, Pe k = some q ∧ pr_usl E (Le k) (B k) q) i + 1)) (nI (i + 1)) := by
              intro h
              rw [pr_i1 ⟨eu, q, e, h⟩] at next
              exact next (by omega) (by omega)
            have no : ¬ pr_usl E (Le i) (B i) q → wX_useless_8 post (nI hd) (pr_oI rt) (pr_oI fr) ab fu (pr_bA U) (pr_nA B) (pr_nA Le) (pr_oA Pe) (pr_oA C) a6' a7' a8' a9' m (nI (pr_cnt (fun k => U k = true ∧ ∃ q, Pe k = some q ∧ pr_usl E (Le k) (B k) q) i + 0)) (nI (i + 1)) := by
              intro h
              rw [pr_i0 (fun w => by obtain ⟨_, q', hq', w⟩ := w; rw [e] at hq'; rw [← Option.some.inj hq'] at w; exact h w)] at next
              exact next (by omega) (by omega)
            generalize pr_cnt (fun k => U k = true ∧ ∃ q, Pe k = some q ∧ pr_usl E (Le k) (B k) q) i = cc at *
            have e66 : ∀ z0 : Int32, ((z0 = 0 ∧ ¬ ∃ a, o = some a ∧ Pe a = some q) ∨ (z0 = 1 ∧ ∃ a, o = some a ∧ Pe a = some q)) → wX_useless_66 post (wX_useless_8 post (nI hd) (pr_oI rt) (pr_oI fr) ab fu (pr_bA U) (pr_nA B) (pr_nA Le) (pr_oA Pe) (pr_oA C) a6' a7' a8' a9' m) (nI cc) (nI i) z0 (nI hd) (pr_oI rt) (pr_oI fr) ab fu (pr_bA U) (pr_nA B) (pr_nA Le) (pr_oA Pe) (pr_oA C) a6' a7' a8' a9' := by
              intro z0 hz
              unfold wX_useless_66
              refine ⟨pk_in i 64 z, ?_⟩
              rw [nI_clamp (show i < 2 ^ 31 by omega), h7]
              generalize hcs : pr_cnt (fun x => best x = some i) 65536 = cs at *
              refine pk_eq cs 0 (fun e0 => nm_r (nI_1 cc) (nm_r (nI_1 i) (yes (iff.mpr (Or.inl e0))))) (fun n0 => ?_) rfl rfl (by omega) (by omega)
              rcases hz with ⟨h1, h2⟩ | ⟨h1, h2⟩
              · refine br_t h1 (nm_r (nI_add cc 0) (nm_r (nI_1 i) (no (fun w => ?_))))
                rcases iff.mp w with h | h
                · exact n0 h
                · exact h2 h
              · rw [h1]
                exact br_f (by decide) (nm_r (nI_1 cc) (nm_r (nI_1 i) (yes (iff.mpr (Or.inr h2)))))
            rw [h8]
            refine pr_oI_neg (fun a ea => by have := pr_T_lt T (hab.2 a ea).1; omega) (fun eo => ?_) (fun a ea => ⟨pk_in i 64 z, ?_⟩)
            · exact e66 0 (Or.inl ⟨rfl, fun ⟨a, h1, _⟩ => by rw [eo] at h1; exact nomatch h1⟩)
            · have ha := hab.2 a ea
              have ha64 := pr_T_lt T ha.1
              refine ⟨pk_in a 64 ha64 (by rw [ea]; rfl), pk_in i 64 z, ?_⟩
              rw [show (pr_oI o).toNatClampNeg = a by rw [ea]; exact nI_clamp (by omega)]
              refine pr_oI_eq (o := Pe a) (o' := Pe i) (fun q e => by have := P a q ha.1 e; omega) (fun q e => by have := P i q eu e; omega) (fun ee => e66 1 (Or.inr ⟨rfl, a, ea, by rw [ee, e]⟩)) (fun ne => e66 0 (Or.inl ⟨rfl, fun ⟨b, h1, h2⟩ => ?_⟩))
              rw [ea] at h1
              rw [← Option.some.inj h1] at h2
              exact ne (by rw [h2, e])
  exact ⟨65, key 65 0 (by omega) (by omega)⟩
theorem pr_w_entries {post : Int32 → Prop} {E : Nat → Nat → Nat → Prop} {hd q : Nat} {u : St1} (ok : pr_OK E hd u) (hq : q < 8) (H : post (nI (pr_kc E (fun _ _ q' => q' = q)))) : wpX_entries post u (nI q) := by
  obtain ⟨U, B, Le, Pe, C, rt, fr, ab, fu, a6, a7, a8, a9, g, hE, hu⟩ := ok
  subst hu
  obtain ⟨T, P, F, hc, h32, L⟩ := g
  unfold wpX_entries
  dsimp only
  refine br_f (nI_pos (by omega)) (pk_le q 7 (fun _ => ?_) (fun z => absurd z (by omega)))
  have key : ∀ m i, 64 < i + m → i ≤ 64 → wX_entries_16 post (nI q) (nI hd) (pr_oI rt) (pr_oI fr) ab fu (pr_bA U) (pr_nA B) (pr_nA Le) (pr_oA Pe) (pr_oA C) a6 a7 a8 a9 m (nI (pr_cnt (fun k => U k = true ∧ ∃ q', Pe k = some q' ∧ q' = q) i)) (nI i) := by
    intro m
    induction m with
    | zero =>
      intro i h1 h2
      omega
    | succ m ih =>
      intro i hm hi
      have next := ih (i + 1)
      rw [pr_cnt_s] at next
      refine pk_le 64 i (fun z => ?_) (fun z => ⟨pk_in i 64 z, ?_⟩)
      · rw [show i = 64 by omega, pr_kc_eq T (fun _ _ q' => q' = q), hE]
        exact H
      · rw [nI_clamp (show i < 2 ^ 31 by omega)]
        refine pr_bA_br (fun eu => nm_r (nI_add _ 0) (nm_r (nI_1 i) ?_)) (fun eu => ⟨pk_in i 64 z, ?_⟩)
        · rw [pr_i0 (fun w => by rw [eu] at w; exact nomatch w.1)] at next
          exact next (by omega) (by omega)
        · refine pr_oI_eq (o := Pe i) (o' := some q) (fun q e => by have := P i q eu e; omega) (fun q' e => by rw [← Option.some.inj e]; omega) (fun e => nm_r (nI_1 _) (nm_r (nI_1 i) ?_)) (fun e => nm_r (nI_add _ 0) (nm_r (nI_1 i) ?_))
          · rw [pr_i1 ⟨eu, q, e, rfl⟩] at next
            exact next (by omega) (by omega)
          · rw [pr_i0 (fun w => by obtain ⟨_, q', hq', w⟩ := w; rw [w] at hq'; exact e hq')] at next
            exact next (by omega) (by omega)
  exact ⟨65, key 65 0 (by omega) (by omega)⟩
end
section
/-! forget; the law's owners -/
theorem pr_w_forget {post : Int32 → St1 → Prop} {E : Nat → Nat → Nat → Prop} {hd q : Nat} {u : St1} (ok : pr_OK E hd u) (hq : q < 8)
    (H : ∀ u' hd' E', pr_OK E' hd' u' → (∀ l p, ¬ E' l p q) → post (nI (pr_kc E (fun _ _ q' => q' = q))) u') : wpX_forget post u (nI q) := by
  obtain ⟨U0, B, Le, Pe0, C0, rt0, fr0, ab0, fu0, a6, a7, a8, a9, g, hE, hu⟩ := ok
  subst hu
  unfold wpX_forget
  dsimp only
  refine br_f (nI_pos (by omega)) (pk_le q 7 (fun _ => ?_) (fun z => absurd z (by omega)))
  have key : ∀ m i gone hd U Pe C rt fr ab fu, 64 < i + m → i ≤ 64 → pr_G U B Le Pe C rt hd fr → (∀ k, k < i → ¬ (U k = true ∧ Pe k = some q)) → gone + pr_cnt (fun k => U k = true ∧ Pe k = some q) 64 = pr_kc E (fun _ _ q' => q' = q) →
      wX_forget_16 post (nI q) m (nI gone) (nI i) (nI hd) (pr_oI rt) (pr_oI fr) ab fu (pr_bA U) (pr_nA B) (pr_nA Le) (pr_oA Pe) (pr_oA C) a6 a7 a8 a9 := by
    intro m
    induction m with
    | zero =>
      intro i gone hd U Pe C rt fr ab fu h1 h2
      omega
    | succ m ih =>
      intro i gone hd U Pe C rt fr ab fu hm hi g hno hcnt
      have g0 := g
      obtain ⟨T, P, F, hc, h32, L⟩ := g
      refine pk_le 64 i (fun z => ?_) (fun z => ⟨pk_in i 64 z, ?_⟩)
      · rw [pr_cnt_zero (P := fun k => U k = true ∧ Pe k = some q) (fun k hk => hno k (by omega))] at hcnt
        rw [show gone = pr_kc E (fun _ _ q' => q' = q) from hcnt]
        refine H _ hd _ ⟨U, B, Le, Pe, C, rt, fr, ab, fu, a6, a7, a8, a9, g0, rfl, rfl⟩ ?_
        rintro l p ⟨n, hn, _, _, hp⟩
        exact hno n (by have := pr_T_lt T hn; omega) ⟨hn, hp⟩
      · rw [nI_clamp (show i < 2 ^ 31 by omega)]
        have skip : ¬ (U i = true ∧ Pe i = some q) → wX_forget_16 post (nI q) m (nI gone) (nI (i + 1)) (nI hd) (pr_oI rt) (pr_oI fr) ab fu (pr_bA U) (pr_nA B) (pr_nA Le) (pr_oA Pe) (pr_oA C) a6 a7 a8 a9 := by
          intro hni
          refine ih (i + 1) gone hd U Pe C rt fr ab fu (by omega) (by omega) g0 (fun k hk => ?_) hcnt
          by_cases e : k = i
          · rw [e]
            exact hni
          · exact hno k (by omega)
        refine pr_bA_br (fun eu => nm_r (nI_1 i) (skip (fun w => by rw [eu] at w; exact nomatch w.1))) (fun eu => ⟨pk_in i 64 z, ?_⟩)
        refine pr_oI_eq (o := Pe i) (o' := some q) (fun q e => by have := P i q eu e; omega) (fun q' e => by rw [← Option.some.inj e]; omega) (fun e => ⟨pk_in i 64 z, pk_in i 64 z, ?_⟩) (fun e => nm_r (nI_1 i) (skip (fun w => e w.2)))
        have ti := T.1 i eu
        refine pr_w_find T ti.2.2.1 ti.2.1 ti.2.2.2 (fun r up fu' hf => ?_)
        dsimp only
        have er : r = some i := by
          obtain ⟨f1, f2, f3, f4, f5⟩ := hf
          cases er : r with
          | none => exact ((f5 er).1 i eu rfl rfl).elim
          | some n =>
            obtain ⟨_, hn, hl, hb⟩ := f4 n er
            rw [T.2.1 n i hn eu hl hb]
        subst er
        have hpos := pr_cnt_pos (P := fun k => U k = true ∧ Pe k ≠ none) ti.1 ⟨eu, pr_sn e⟩
        obtain ⟨h, rfl⟩ : ∃ h, hd = h + 1 := ⟨hd - 1, by omega⟩
        refine pr_w_takeOut g0 hf ti.2.1 (pr_sn e) (fun U' C' rt' fr' g' hU => ?_)
        dsimp only
        have back : ∀ k, U' k = true ∧ pr_up Pe i none k = some q → (U k = true ∧ Pe k = some q) ∧ k ≠ i := by
          rintro k ⟨h1, h2⟩
          have h3 := (hU k).mp ⟨h1, pr_sn h2⟩
          rw [pr_up_n h3.2.2] at h2
          exact ⟨⟨h3.1, h2⟩, h3.2.2⟩
        refine nm_r (nI_1 gone) (nm_r (nI_1 i) (ih (i + 1) (gone + 1) h U' (pr_up Pe i none) C' rt' fr' _ _ (by omega) (by omega) g' (fun k hk w => ?_) ?_))
        · have := back k w
          exact hno k (by omega) this.1
        · have := pr_cnt_add (P := fun k => U' k = true ∧ pr_up Pe i none k = some q) (Q := fun k => U k = true ∧ Pe k = some q) (n := 64) (a := i) ti.1 (fun w => (back i w).2 rfl) ⟨eu, e⟩ (fun k _ hk => ⟨fun w => ⟨((hU k).mpr ⟨w.1, pr_sn w.2, hk⟩).1, by rw [pr_up_n hk]; exact w.2⟩, fun w => (back k w).1⟩)
          omega
  refine ⟨65, key 65 0 0 hd U0 Pe0 C0 rt0 fr0 ab0 fu0 (by omega) (by omega) g (fun k hk => absurd hk (by omega)) ?_⟩
  rw [← hE, ← pr_kc_eq g.1 (fun _ _ q' => q' = q), Nat.zero_add]
  refine pr_cnt_congr (fun k _ => ⟨fun w => ⟨w.1, q, w.2, rfl⟩, fun w => ?_⟩)
  obtain ⟨h1, q', h2, h3⟩ := w
  rw [h3] at h2
  exact ⟨h1, h2⟩
/-- owner of any int -/
noncomputable def pr_ow (E : Nat → Nat → Nat → Prop) (y : Int32) : Int32 := pr_oI (pr_pe E (y.toBitVec.toNat % 65536))
noncomputable def pr_hash (E : Nat → Nat → Nat → Prop) (seed : Int32) : Nat → Int32
  | 0 => 0
  | i + 1 => ((((pr_hash E seed i * 11) + pr_ow E (seed + (1021 * nI i))) + 1) * 11 + pr_ow E ((nI i * 1024) + (seed &&& 3))) + 1
theorem pr_msk (y : Int32) : y &&& 65535 = nI (y.toBitVec.toNat % 65536) := pk_and y 16 (by decide)
theorem pr_w_ow {post : Int32 → Prop} {E : Nat → Nat → Nat → Prop} {hd : Nat} {u : St1} (ok : pr_OK E hd u) (y : Int32) (H : post (pr_ow E y)) : wpX_owner post u y := by
  obtain ⟨U, B, Le, Pe, C, rt, fr, ab, fu, a6, a7, a8, a9, g, hE, hu⟩ := ok
  subst hu
  subst hE
  exact pr_w_owner g.1 g.2.1 (Nat.mod_lt _ (by omega)) (pr_msk y) H
theorem pr_w_len {post : Int32 → Prop} {E : Nat → Nat → Nat → Prop} {hd x : Nat} {u : St1} {y : Int32} (ok : pr_OK E hd u) (hx : x < 65536) (hy : y &&& 65535 = nI x) (H : post (pr_oI (pr_le E x))) : wpX_length post u y := by
  obtain ⟨U, B, Le, Pe, C, rt, fr, ab, fu, a6, a7, a8, a9, g, hE, hu⟩ := ok
  subst hu
  subst hE
  exact pr_w_length g.1 g.2.1 hx hy H
theorem pr_w_owners {post : Int32 → Prop} {E : Nat → Nat → Nat → Prop} {hd : Nat} {u : St1} {seed : Int32} (ok : pr_OK E hd u) (H : post (pr_hash E seed 64)) : wpL_owners post u seed := by
  obtain ⟨h1, h2, h3, h4, h5, a1, a2, a3, a4, a5, a6, a7, a8, a9⟩ := u
  unfold wpL_owners
  dsimp only
  have key : ∀ m i, 64 < i + m → i ≤ 64 → wL_owners_4 post seed h1 h2 h3 h4 h5 a1 a2 a3 a4 a5 a6 a7 a8 a9 m (pr_hash E seed i) (nI i) := by
    intro m
    induction m with
    | zero =>
      intro i h1 h2
      omega
    | succ m ih =>
      intro i hm hi
      refine pk_le 64 i (fun z => ?_) (fun z => ?_)
      · rw [show i = 64 by omega]
        exact H
      · refine pr_w_ow ok _ (nm_e (pr_w_ow ok _ (nm_e (nm_r (nI_1 i) ?_))))
        exact ih (i + 1) (by omega) (by omega)
  exact ⟨65, key 65 0 (by omega) (by omega)⟩
end
section
/-! nextEdge, next -/
def pr_ed (B Le : Nat → Nat) (j : Nat) : Nat := if j % 2 = 0 then B (j / 2) else B (j / 2) + 2 ^ (16 - Le (j / 2))
theorem pr_ed0 (B Le : Nat → Nat) (n : Nat) : pr_ed B Le (2 * n) = B n := by
  unfold pr_ed
  rw [if_pos (by omega), show 2 * n / 2 = n by omega]
theorem pr_ed1 (B Le : Nat → Nat) (n : Nat) : pr_ed B Le (2 * n + 1) = B n + 2 ^ (16 - Le n) := by
  unfold pr_ed
  rw [if_neg (by omega), show (2 * n + 1) / 2 = n by omega]
theorem pr_cnt_lt {P Q : Nat → Prop} {n j : Nat} (h : ∀ k, k < n → Q k → P k) (hj : j < n) (hP : P j) (hQ : ¬ Q j) : pr_cnt Q n < pr_cnt P n := by
  have h1 := pr_cnt_add (P := Q) (Q := fun k => Q k ∨ k = j) hj hQ (Or.inr rfl) (fun k _ hk => ⟨fun z => z.resolve_right hk, fun z => Or.inl z⟩)
  have h2 := pr_cnt_mono (P := fun k => Q k ∨ k = j) (Q := P) (n := n) (fun k hk z => by
    rcases z with z | z
    · exact h k hk z
    · rw [z]
      exact hP)
  omega
section
variable {U : Nat → Bool} {B Le : Nat → Nat} {C : Nat → Option Nat} {rt : Option Nat} {Pe : Nat → Option Nat}
theorem pr_w_edge {post : Int32 → Prop} {h1 h2 h3 h4 h5 : Int32} {a4 a5 a6 a7 a8 a9 : Nat → Int32} {at0 : Nat} (T : pr_T U B Le C rt) (hat : at0 < 65536)
    (H : ∀ e, at0 < e → e ≤ 65536 → (e = 65536 ∨ ∃ j, j < 128 ∧ U (j / 2) = true ∧ e = pr_ed B Le j) → (∀ n, U n = true → ¬ (at0 < B n ∧ B n < e) ∧ ¬ (at0 < B n + 2 ^ (16 - Le n) ∧ B n + 2 ^ (16 - Le n) < e)) → post (nI e)) :
    wpX_nextEdge post (h1, h2, h3, h4, h5, pr_bA U, pr_nA B, pr_nA Le, a4, a5, a6, a7, a8, a9) (nI at0) := by
  have key : ∀ m i e, 64 < i + m → i ≤ 64 → at0 < e → e ≤ 65536 → (e = 65536 ∨ ∃ j, j < 128 ∧ U (j / 2) = true ∧ e = pr_ed B Le j) → (∀ n, n < i → U n = true → ¬ (at0 < B n ∧ B n < e) ∧ ¬ (at0 < B n + 2 ^ (16 - Le n) ∧ B n + 2 ^ (16 - Le n) < e)) →
      wX_nextEdge_5 post (nI at0) h1 h2 h3 h4 h5 (pr_bA U) (pr_nA B) (pr_nA Le) a4 a5 a6 a7 a8 a9 m (nI e) (nI i) := by
    intro m
    induction m with
    | zero =>
      intro i e h1 h2
      omega
    | succ m ih =>
      intro i e hm hi he he2 hj hn
      refine pk_le 64 i (fun z => H e he he2 hj (fun n hu => hn n (by have := pr_T_lt T hu; omega) hu)) (fun z => ⟨pk_in i 64 z, ?_⟩)
      rw [nI_clamp (show i < 2 ^ 31 by omega)]
      refine pr_bA_br (fun eu => nm_r (nI_1 i) (ih (i + 1) e (by omega) (by omega) he he2 hj (fun n hni hu => ?_))) (fun eu => ⟨pk_in i 64 z, pk_in i 64 z, ?_⟩)
      · by_cases en : n = i
        · rw [en, eu] at hu
          exact nomatch hu
        · exact hn n (by omega) hu
      · have ti := T.1 i eu
        have hend := pr_end_le ti.2.1 ti.2.2.1 ti.2.2.2
        have e0 := pr_ed0 B Le i
        have e1 := pr_ed1 B Le i
        have hx4 : pr_nA B i + ((65536 : Int32) >>> ((pr_nA Le i) &&& 31)) = nI (B i + 2 ^ (16 - Le i)) := by
          rw [show (65536 : Int32) >>> ((pr_nA Le i) &&& 31) = nI (2 ^ (16 - Le i)) from pr_size (Le i) (by omega)]
          exact nI_add _ _
        refine nm_r hx4 ⟨pk_in i 64 z, ?_⟩
        have ee : ∀ e', e' = B i ∨ e' = B i + 2 ^ (16 - Le i) → (e' = 65536 ∨ ∃ j, j < 128 ∧ U (j / 2) = true ∧ e' = pr_ed B Le j) := by
          intro e' h
          rcases h with h | h
          · exact Or.inr ⟨2 * i, by omega, by rw [show 2 * i / 2 = i by omega]; exact eu, by rw [h, e0]⟩
          · exact Or.inr ⟨2 * i + 1, by omega, by rw [show (2 * i + 1) / 2 = i by omega]; exact eu, by rw [h, e1]⟩
        have lower : ∀ e', e' ≤ e → ¬ (at0 < B i ∧ B i < e') → ¬ (at0 < B i + 2 ^ (16 - Le i) ∧ B i + 2 ^ (16 - Le i) < e') → ∀ n, n < i + 1 → U n = true → ¬ (at0 < B n ∧ B n < e') ∧ ¬ (at0 < B n + 2 ^ (16 - Le n) ∧ B n + 2 ^ (16 - Le n) < e') := by
          intro e' hle g1 g2 n hni hu
          by_cases en : n = i
          · rw [en]
            exact ⟨g1, g2⟩
          · have := hn n (by omega) hu
            exact ⟨fun w => this.1 ⟨w.1, by omega⟩, fun w => this.2 ⟨w.1, by omega⟩⟩
        generalize hen : B i + 2 ^ (16 - Le i) = en at *
        have k68 : ∀ z0, z0 ≤ e → at0 < z0 → (z0 = 65536 ∨ ∃ j, j < 128 ∧ U (j / 2) = true ∧ z0 = pr_ed B Le j) → ¬ (at0 < B i ∧ B i < z0) → wX_nextEdge_68 post (wX_nextEdge_5 post (nI at0) h1 h2 h3 h4 h5 (pr_bA U) (pr_nA B) (pr_nA Le) a4 a5 a6 a7 a8 a9 m) (nI at0) (nI i) (nI en) (nI z0) h1 h2 h3 h4 h5 (pr_bA U) (pr_nA B) (pr_nA Le) a4 a5 a6 a7 a8 a9 := by
          intro z0 hz1 hz2 hz3 hz4
          unfold wX_nextEdge_68
          refine pk_le en at0 (fun w => nm_r (nI_1 i) (ih (i + 1) z0 (by omega) (by omega) hz2 (by omega) hz3 (lower z0 hz1 hz4 (fun v => by omega)))) (fun w => ?_)
          refine pk_le z0 en (fun v => nm_r (nI_1 i) (ih (i + 1) z0 (by omega) (by omega) hz2 (by omega) hz3 (lower z0 hz1 hz4 (fun v => by omega)))) (fun v => nm_r (nI_1 i) (ih (i + 1) en (by omega) (by omega) w (by omega) (ee en (Or.inr rfl)) (lower en (by omega) (fun v => by omega) (fun v => by omega))))
        refine pk_le (B i) at0 (fun w => k68 e (Nat.le_refl _) he hj (fun v => by omega)) (fun w => ⟨pk_in i 64 z, ?_⟩) rfl rfl (by omega) (by omega)
        refine pk_le e (B i) (fun v => k68 e (Nat.le_refl _) he hj (fun v => by omega)) (fun v => ⟨pk_in i 64 z, ?_⟩) rfl rfl (by omega) (by omega)
        exact k68 (B i) (by omega) w (ee (B i) (Or.inl rfl)) (fun v => by omega)
  exact ⟨65, key 65 0 65536 (by omega) (by omega) (by omega) (by omega) (Or.inl rfl) (fun n hn => absurd hn (by omega))⟩
theorem pr_own_same {x y : Nat} {E : Nat → Nat → Nat → Prop} (h : ∀ l p q, E l p q → (pr_ag l p x ↔ pr_ag l p y)) : pr_own E x = pr_own E y := by
  unfold pr_own
  congr 1
  funext o
  refine propext ⟨fun g => ⟨fun e l p q hE z => g.1 e l p q hE ((h l p q hE).mpr z), fun r e => ?_⟩, fun g => ⟨fun e l p q hE z => g.1 e l p q hE ((h l p q hE).mp z), fun r e => ?_⟩⟩
  · obtain ⟨⟨p, hp, ha⟩, hm⟩ := g.2 r e
    exact ⟨⟨p, hp, (h _ _ _ hp).mp ha⟩, fun l p q hE z => hm l p q hE ((h l p q hE).mpr z)⟩
  · obtain ⟨⟨p, hp, ha⟩, hm⟩ := g.2 r e
    exact ⟨⟨p, hp, (h _ _ _ hp).mpr ha⟩, fun l p q hE z => hm l p q hE ((h l p q hE).mp z)⟩
end
theorem pr_pe_lt {U : Nat → Bool} {B Le : Nat → Nat} {C : Nat → Option Nat} {rt : Option Nat} {Pe : Nat → Option Nat} {x q : Nat} (T : pr_T U B Le C rt) (P : ∀ n q, U n = true → Pe n = some q → q < 8) {o : Option Nat} (h : pr_bst (fun m => U m = true) B Le Pe x o) (e : pr_pe (pr_E U B Le Pe) x = some q) : q < 8 := by
  rw [pr_bst_pe T P h] at e
  cases o with
  | none => exact nomatch e
  | some k => exact P k q (h.2 k rfl).1 e
theorem pr_w_next {post : Int32 → Prop} {E : Nat → Nat → Nat → Prop} {hd from0 : Nat} {u : St1} {o : Option Nat} (ok : pr_OK E hd u) (ho : ∀ q, o = some q → q < 8) (hb : ∀ x q, pr_pe E x = some q → q < 8) (hf : from0 < 65536)
    (H1 : ∀ x, from0 ≤ x → x < 65536 → pr_pe E x = o → post (nI x)) (H2 : (∀ x, from0 ≤ x → x < 65536 → pr_pe E x ≠ o) → post (-1)) : wpX_next post u (pr_oI o) (nI from0) := by
  obtain ⟨U, B, Le, Pe, C, rt, fr, ab, fu, a6, a7, a8, a9, g, hE, hu⟩ := ok
  subst hu
  obtain ⟨T, P, F, hc, h32, L⟩ := g
  unfold wpX_next
  dsimp only
  refine br_f (pr_o1 ho) (br_t (pr_o7 ho) (br_t (nI_pos' (by omega)) ?_))
  have key : ∀ m step a, 130 < step + m → step ≤ 130 → from0 ≤ a → a ≤ 65536 → (∀ x, from0 ≤ x → x < a → pr_pe E x ≠ o) → (a = 65536 ∨ step + pr_cnt (fun j => U (j / 2) = true ∧ a < pr_ed B Le j) 128 ≤ 128) →
      wX_next_27 post (pr_oI o) (nI hd) (pr_oI rt) (pr_oI fr) ab fu (pr_bA U) (pr_nA B) (pr_nA Le) (pr_oA Pe) (pr_oA C) a6 a7 a8 a9 m (nI a) (nI step) := by
    intro m
    induction m with
    | zero =>
      intro step a h1 h2
      omega
    | succ m ih =>
      intro step a hm hs ha1 ha2 hno hM
      refine pk_le 130 step (fun z => H2 (fun x hx1 hx2 => hno x hx1 (by omega))) (fun z => ?_)
      refine pk_le 65536 a (fun z2 => H2 (fun x hx1 hx2 => hno x hx1 (by omega))) (fun z2 => ?_)
      refine pr_w_owner T P (x := a) (by omega) (pr_maskS (by omega)) ?_
      rw [hE]
      refine pr_oI_eq (fun q e => by have := hb a q e; omega) (fun q e => by have := ho q e; omega) (fun e => H1 a ha1 z2 e) (fun ne => ?_)
      refine pr_w_edge T z2 (fun e he1 he2 hej hen => nm_r (nI_1 step) (ih (step + 1) e (by omega) (by omega) (by omega) he2 (fun x hx1 hx2 => ?_) ?_))
      · by_cases hxa : x < a
        · exact hno x hx1 hxa
        · have same : pr_own E x = pr_own E a := by
            refine pr_own_same (fun l p q hE2 => ?_)
            rw [← hE] at hE2
            obtain ⟨n, hn, rfl, rfl, _⟩ := hE2
            have hh := hen n hn
            rw [pr_ag_iv (T.1 n hn).2.2.2, pr_ag_iv (T.1 n hn).2.2.2]
            generalize B n + 2 ^ (16 - Le n) = en at *
            omega
          have : pr_pe E x = pr_pe E a := by
            unfold pr_pe
            rw [same]
          rw [this]
          exact ne
      · rcases hej with h | ⟨j, hj, hu, hje⟩
        · exact Or.inl h
        · refine Or.inr ?_
          have hlt := pr_cnt_lt (P := fun j => U (j / 2) = true ∧ a < pr_ed B Le j) (Q := fun j => U (j / 2) = true ∧ e < pr_ed B Le j) (n := 128) (fun k _ hk => ⟨hk.1, by omega⟩) hj ⟨hu, by omega⟩ (fun w => by omega)
          rcases hM with h | h
          · omega
          · omega
  have := pr_cnt_le (fun j => U (j / 2) = true ∧ from0 < pr_ed B Le j) 128
  exact ⟨131, key 131 0 from0 (by omega) (by omega) (by omega) (by omega) (fun x h1 h2 => absurd h2 (by omega)) (Or.inr (by omega))⟩
end
section
/-! summed, back -/
theorem pr_bst_ex {U : Nat → Bool} {B Le : Nat → Nat} {C : Nat → Option Nat} {rt : Option Nat} {Pe : Nat → Option Nat} (T : pr_T U B Le C rt) (x : Nat) : ∃ o, pr_bst (fun m => U m = true) B Le Pe x o := by
  have h : ∀ k, ∃ o, pr_bst (fun m => U m = true ∧ m < k) B Le Pe x o := by
    intro k
    induction k with
    | zero => exact ⟨none, fun _ m hm => absurd hm.2 (by omega), fun k e => nomatch e⟩
    | succ k ih =>
      obtain ⟨o, h1, h2⟩ := ih
      have split : ∀ m, m < k + 1 → m < k ∨ m = k := fun m hm => by omega
      by_cases hk : U k = true ∧ Pe k ≠ none ∧ pr_ag (Le k) (B k) x ∧ ∀ w, o = some w → Le w ≤ Le k
      · refine ⟨some k, (fun e => nomatch e), fun j e => ?_⟩
        rw [← Option.some.inj e]
        refine ⟨⟨hk.1, by omega⟩, hk.2.1, hk.2.2.1, fun m hm hp ha => ?_⟩
        rcases split m hm.2 with h | h
        · cases eo : o with
          | none => exact absurd ha (h1 eo m ⟨hm.1, h⟩ hp)
          | some w => exact Nat.le_trans ((h2 w eo).2.2.2 m ⟨hm.1, h⟩ hp ha) (hk.2.2.2 w eo)
        · rw [h]
          exact Nat.le_refl _
      · refine ⟨o, fun e m hm hp ha => ?_, fun w e => ?_⟩
        · rcases split m hm.2 with h | h
          · exact h1 e m ⟨hm.1, h⟩ hp ha
          · rw [h] at hm hp ha
            exact hk ⟨hm.1, hp, ha, fun w ew => by rw [e] at ew; exact nomatch ew⟩
        · obtain ⟨g1, g2, g3, g4⟩ := h2 w e
          refine ⟨⟨g1.1, by omega⟩, g2, g3, fun m hm hp ha => ?_⟩
          rcases split m hm.2 with h | h
          · exact g4 m ⟨hm.1, h⟩ hp ha
          · rw [h] at hm hp ha ⊢
            refine Classical.byContradiction (fun z => hk ⟨hm.1, hp, ha, fun w' ew => ?_⟩)
            rw [e] at ew
            rw [← Option.some.inj ew]
            omega
  obtain ⟨o, h1, h2⟩ := h 64
  refine ⟨o, fun e m hm => h1 e m ⟨hm, pr_T_lt T hm⟩, fun k e => ?_⟩
  obtain ⟨g1, g2, g3, g4⟩ := h2 k e
  exact ⟨g1.1, g2, g3, fun m hm => g4 m ⟨hm, pr_T_lt T hm⟩⟩
theorem pr_OK_lk {E : Nat → Nat → Nat → Prop} {hd : Nat} {u : St1} (ok : pr_OK E hd u) (x : Nat) : pr_lk E x (pr_own E x) := by
  obtain ⟨U, B, Le, Pe, C, rt, fr, ab, fu, a6, a7, a8, a9, g, hE, hu⟩ := ok
  obtain ⟨o, ho⟩ := pr_bst_ex (Pe := Pe) g.1 x
  subst hE
  rw [pr_bst_own g.1 g.2.1 ho]
  exact pr_bst_lk ho
theorem pr_OK_EF {E : Nat → Nat → Nat → Prop} {hd : Nat} {u : St1} (ok : pr_OK E hd u) : pr_EF E := by
  obtain ⟨U, B, Le, Pe, C, rt, fr, ab, fu, a6, a7, a8, a9, g, hE, hu⟩ := ok
  subst hE
  exact pr_E_EF g.1 g.2.1
theorem pr_OK_32 {E : Nat → Nat → Nat → Prop} {hd : Nat} {u : St1} (ok : pr_OK E hd u) : hd ≤ 32 := by
  obtain ⟨U, B, Le, Pe, C, rt, fr, ab, fu, a6, a7, a8, a9, g, hE, hu⟩ := ok
  exact g.2.2.2.2.1
theorem pr_OK_pe {E : Nat → Nat → Nat → Prop} {hd : Nat} {u : St1} (ok : pr_OK E hd u) (x q : Nat) (e : pr_pe E x = some q) : ∃ l p, E l p q := by
  have lk := pr_OK_lk ok x
  unfold pr_pe at e
  cases eo : pr_own E x with
  | none =>
    rw [eo] at e
    exact nomatch e
  | some r =>
    rw [eo] at e
    have e : r.2 = q := Option.some.inj e
    obtain ⟨⟨p, hp, _⟩, _⟩ := lk.2 r eo
    rw [e] at hp
    exact ⟨_, p, hp⟩
theorem pr_OK_p8 {E : Nat → Nat → Nat → Prop} {hd : Nat} {u : St1} (ok : pr_OK E hd u) (x q : Nat) (e : pr_pe E x = some q) : q < 8 := by
  obtain ⟨l, p, h⟩ := pr_OK_pe ok x q e
  exact ((pr_OK_EF ok).1 l p q h).2.2.2
theorem pr_ow_nI {E : Nat → Nat → Nat → Prop} {x : Nat} (hx : x < 65536) : pr_ow E (nI x) = pr_oI (pr_pe E x) := by
  unfold pr_ow
  rw [pk_tn (by omega), Nat.mod_eq_of_lt hx]
theorem pr_sum_body {post : Int32 → St1 → Prop} {E : Nat → Nat → Nat → Prop} {hd from0 m : Nat} {o : Option Nat} {x2 : Int32} {h1 h2 h3 h4 h5 : Int32} {a1 a2 a3 a4 a5 a6 a7 a8 a9 : Nat → Int32} (ok : pr_OK E hd (h1, h2, h3, h4, h5, a1, a2, a3, a4, a5, a6, a7, a8, a9)) (ho : ∀ q, o = some q → q < 8) (hf : from0 < 65536) (h8 : ¬ 8 ≤ pr_oI o)
    (next : ∀ h1 h2 h3 h4 h5 a1 a2 a3 a4 a5 a6 a7 a8 a9, pr_OK E hd (h1, h2, h3, h4, h5, a1, a2, a3, a4, a5, a6, a7, a8, a9) → wL_summed_4 post (nI from0) m (x2 + nI (pr_cnt (fun x => pr_pe E x = o) 65536)) (pr_oI o + 1) h1 h2 h3 h4 h5 a1 a2 a3 a4 a5 a6 a7 a8 a9) :
    wL_summed_4 post (nI from0) (m + 1) x2 (pr_oI o) h1 h2 h3 h4 h5 a1 a2 a3 a4 a5 a6 a7 a8 a9 := by
  refine br_f h8 (pr_w_owned ok ho (fun u ok => ?_))
  obtain ⟨h1, h2, h3, h4, h5, a1, a2, a3, a4, a5, a6, a7, a8, a9⟩ := u
  dsimp only
  have next := next h1 h2 h3 h4 h5 a1 a2 a3 a4 a5 a6 a7 a8 a9 ok
  have hcle := pr_cnt_le (fun x => pr_pe E x = o) 65536
  have pos : (∃ x, x < 65536 ∧ pr_pe E x = o) → 0 < pr_cnt (fun x => pr_pe E x = o) 65536 := fun ⟨x, hx, e⟩ => pr_cnt_pos (P := fun x => pr_pe E x = o) hx e
  have zer : (∀ x, 0 ≤ x → x < 65536 → pr_pe E x ≠ o) → pr_cnt (fun x => pr_pe E x = o) 65536 = 0 := fun h => pr_cnt_zero (P := fun x => pr_pe E x = o) (fun x hx => h x (Nat.zero_le _) hx)
  generalize pr_cnt (fun x => pr_pe E x = o) 65536 = c at *
  have s60 : wL_summed_60 post (wL_summed_4 post (nI from0) m) (nI from0) x2 (pr_oI o) (nI c) h1 h2 h3 h4 h5 a1 a2 a3 a4 a5 a6 a7 a8 a9 := by
    unfold wL_summed_60
    refine pr_w_next (from0 := 0) ok ho (pr_OK_p8 ok) (by omega) (fun x _ hx e => ?_) (fun hno => ?_)
    · have hc := pos ⟨x, hx, e⟩
      refine br_f (pr_nI_m1 (by omega)) ?_
      unfold wL_summed_75
      refine br_f (nI_ne0 hc (by omega)) ?_
      unfold wL_summed_85
      exact br_t rfl (nm_e (nm_e next))
    · have hc := zer hno
      refine br_t rfl ?_
      unfold wL_summed_75
      refine br_t (by rw [hc]; rfl) ?_
      unfold wL_summed_85
      exact br_t rfl (nm_e (nm_e next))
  refine pr_w_next ok ho (pr_OK_p8 ok) hf (fun x hx1 hx2 e => ?_) (fun hno => ?_)
  · refine br_f (nI_pos (by omega)) (br_f (nI_pos (by omega)) (pr_w_ow ok _ ?_))
    rw [pr_ow_nI hx2, e]
    exact br_t rfl (br_f (nI_nlt hx1 (by omega)) (br_t (nI_le (b := 65535) (by omega) (by decide)) s60))
  · exact br_f (nI_pos (by omega)) (br_t (by decide) s60)
theorem pr_w_summed {post : Int32 → St1 → Prop} {E : Nat → Nat → Nat → Prop} {hd from0 : Nat} {u : St1} (ok : pr_OK E hd u) (hf : from0 < 65536) (H : ∀ u', pr_OK E hd u' → post 1 u') : wpL_summed post u (nI from0) := by
  obtain ⟨h1, h2, h3, h4, h5, a1, a2, a3, a4, a5, a6, a7, a8, a9⟩ := u
  unfold wpL_summed
  dsimp only
  have p8 := pr_OK_p8 ok
  have key : ∀ m k h1 h2 h3 h4 h5 a1 a2 a3 a4 a5 a6 a7 a8 a9, 8 < k + m → k ≤ 8 → pr_OK E hd (h1, h2, h3, h4, h5, a1, a2, a3, a4, a5, a6, a7, a8, a9) → wL_summed_4 post (nI from0) m (nI (pr_ps (pr_pe E) 65536 k)) (nI k) h1 h2 h3 h4 h5 a1 a2 a3 a4 a5 a6 a7 a8 a9 := by
    intro m
    induction m with
    | zero =>
      intro k h1 h2 h3 h4 h5 a1 a2 a3 a4 a5 a6 a7 a8 a9 hm hk
      omega
    | succ m ih =>
      intro k h1 h2 h3 h4 h5 a1 a2 a3 a4 a5 a6 a7 a8 a9 hm hk ok
      by_cases e : k = 8
      · subst e
        rw [pr_ps_all (fun x _ q e => p8 x q e)]
        exact br_t (nI_le (a := 8) (b := 8) (by omega) (by decide)) (br_t rfl (H _ ok))
      · refine pr_sum_body (o := some k) ok (fun q e => by rw [← Option.some.inj e]; omega) hf (nI_ge (b := 8) (by omega) (by decide)) (fun h1 h2 h3 h4 h5 a1 a2 a3 a4 a5 a6 a7 a8 a9 ok => ?_)
        rw [nI_add, show pr_oI (some k) = nI k from rfl, nI_1]
        exact ih (k + 1) h1 h2 h3 h4 h5 a1 a2 a3 a4 a5 a6 a7 a8 a9 (by omega) (by omega) ok
  refine ⟨11, pr_sum_body (o := none) ok (fun q e => nomatch e) hf (by decide) (fun h1 h2 h3 h4 h5 a1 a2 a3 a4 a5 a6 a7 a8 a9 ok => ?_)⟩
  have := key 10 0 h1 h2 h3 h4 h5 a1 a2 a3 a4 a5 a6 a7 a8 a9 (by omega) (by omega) ok
  rw [show (0 : Int32) + nI (pr_cnt (fun x => pr_pe E x = none) 65536) = nI (pr_ps (pr_pe E) 65536 0) by rw [show (0 : Int32) = nI 0 from rfl, nI_add, Nat.zero_add]; rfl]
  exact this
theorem pr_w_back {post : Int32 → St1 → Prop} {E : Nat → Nat → Nat → Prop} {hd x : Nat} {u : St1} (ok : pr_OK E hd u) (hx : x < 65536) (H : ∀ u' E' hd', pr_OK E' hd' u' → post 1 u') : wpL_back post u (nI x) := by
  obtain ⟨h1, h2, h3, h4, h5, a1, a2, a3, a4, a5, a6, a7, a8, a9⟩ := u
  unfold wpL_back
  dsimp only
  have hy := pr_maskS hx
  refine pr_w_len ok hx hy (pr_w_ow ok _ ?_)
  rw [pr_ow_nI hx]
  refine pr_w_owners ok (pr_w_owned ok (fun q e => pr_OK_p8 ok x q e) (fun u ok => ?_))
  obtain ⟨h1, h2, h3, h4, h5, a1, a2, a3, a4, a5, a6, a7, a8, a9⟩ := u
  dsimp only
  refine pr_w_useless ok (fun u ok => ?_)
  obtain ⟨h1, h2, h3, h4, h5, a1, a2, a3, a4, a5, a6, a7, a8, a9⟩ := u
  dsimp only
  have lk := pr_OK_lk ok x
  have EF := pr_OK_EF ok
  have h32 := pr_OK_32 ok
  cases eo : pr_own E x with
  | none =>
    have e1 : pr_le E x = none := by unfold pr_le; rw [eo]; rfl
    have e2 : pr_pe E x = none := by unfold pr_pe; rw [eo]; rfl
    rw [e1, e2]
    exact br_t rfl (br_t rfl (H _ _ _ ok))
  | some r =>
    obtain ⟨l, q⟩ := r
    have e1 : pr_le E x = some l := by unfold pr_le; rw [eo]; rfl
    have e2 : pr_pe E x = some q := by unfold pr_pe; rw [eo]; rfl
    obtain ⟨⟨p, hp, hag⟩, hmax⟩ := lk.2 _ eo
    dsimp only at hp hag hmax
    have F := EF.1 _ _ _ hp
    have ep : pr_cut l x = p := (pr_cut_iff F.2.2.1).mpr hag
    rw [e1, show pr_oI (some l) = nI l from rfl]
    refine br_f (pr_nI_m1 (by omega)) ?_
    refine pr_w_deny ok hx hy F.1 (fun r3 u3 hd3 E3 ok3 h3 => ?_)
    obtain ⟨ehd, er, hE3⟩ := h3 ⟨q, by rw [ep]; exact hp⟩
    obtain ⟨h1, h2, h3, h4, h5, a1, a2, a3, a4, a5, a6, a7, a8, a9⟩ := u3
    dsimp only
    subst er
    refine br_f (nI_pos (by omega)) (pr_w_len ok3 hx hy ?_)
    have lk3 := pr_OK_lk ok3 x
    have short : ¬ nI l ≤ pr_oI (pr_le E3 x) := by
      unfold pr_le
      cases eo3 : pr_own E3 x with
      | none =>
        intro z
        have z : nI l ≤ (-1) := z
        exact absurd (Int32.lt_of_le_of_lt z (by decide : (-1 : Int32) < 0)) (nI_pos (by omega))
      | some r =>
        obtain ⟨l', q'⟩ := r
        obtain ⟨⟨p', hp', hag'⟩, _⟩ := lk3.2 _ eo3
        dsimp only at hp' hag'
        have h := (hE3 _ _ _).mp hp'
        have hle := hmax _ _ _ h.1 hag'
        have hne : l' ≠ l := by
          intro e
          subst e
          exact h.2 ⟨rfl, ((pr_cut_iff (EF.1 _ _ _ h.1).2.2.1).mpr hag').symm⟩
        exact nI_ge (show l' < l by omega) (by omega)
    refine br_f short ?_
    rw [e2]
    refine pr_w_allow (q := q) ok3 hx hy F.1 F.2.2.2 (fun r4 u4 hd4 E4 ok4 h4 => ?_)
    obtain ⟨er4, hE4⟩ := h4 (fun q' z => ((hE3 _ _ _).mp z).2 ⟨rfl, rfl⟩) (by omega)
    have eE : E4 = E := by
      funext l1 p1 q1
      refine propext ⟨fun z => ?_, fun z => ?_⟩
      · rcases (hE4 _ _ _).mp z with h | ⟨h1, h2, h3⟩
        · exact ((hE3 _ _ _).mp h).1
        · rw [h1, h2, h3, ep]
          exact hp
      · refine (hE4 _ _ _).mpr ?_
        by_cases e : l1 = l ∧ p1 = pr_cut l x
        · refine Or.inr ⟨e.1, e.2, ?_⟩
          rw [e.1, e.2, ep] at z
          exact EF.2 _ _ _ _ z hp
        · exact Or.inl ((hE3 _ _ _).mpr ⟨z, e⟩)
    subst eE
    obtain ⟨h1, h2, h3, h4, h5, a1, a2, a3, a4, a5, a6, a7, a8, a9⟩ := u4
    dsimp only
    refine br_t (by rw [er4, nI_1]) (pr_w_owners ok4 (br_t rfl (pr_w_owned (o := some q) ok4 (fun q' e => by rw [← Option.some.inj e]; exact F.2.2.2) (fun u5 ok5 => ?_))))
    obtain ⟨h1, h2, h3, h4, h5, a1, a2, a3, a4, a5, a6, a7, a8, a9⟩ := u5
    dsimp only
    refine br_t rfl (pr_w_useless ok5 (fun u6 ok6 => ?_))
    obtain ⟨h1, h2, h3, h4, h5, a1, a2, a3, a4, a5, a6, a7, a8, a9⟩ := u6
    dsimp only
    refine br_t rfl (pr_w_len ok6 hx hy ?_)
    exact br_t (by rw [e1]; rfl) (H _ _ _ ok6)
end
section
/-! the new table; the law's loop -/
def pr_seq (i : Nat) : Nat → List Nat
  | 0 => []
  | d + 1 => i :: pr_seq (i + 1) d
theorem pr_seq_mem {d : Nat} : ∀ {i m : Nat}, m ∈ pr_seq i d → i ≤ m ∧ m < i + d := by
  induction d with
  | zero =>
    intro i m h
    exact nomatch h
  | succ d ih =>
    intro i m h
    rcases List.mem_cons.mp h with e | e
    · omega
    · have := ih e
      omega
theorem pr_seq_nodup {d : Nat} : ∀ {i : Nat}, (pr_seq i d).Nodup := by
  induction d with
  | zero =>
    intro i
    exact List.nodup_nil
  | succ d ih =>
    intro i
    exact List.nodup_cons.mpr ⟨fun h => by have := pr_seq_mem h; omega, ih⟩
theorem pr_seq_len {d : Nat} : ∀ {i : Nat}, (pr_seq i d).length = d := by
  induction d with
  | zero =>
    intro i
    rfl
  | succ d ih =>
    intro i
    show (pr_seq (i + 1) d).length + 1 = d + 1
    rw [ih]
def pr_C0 : Nat → Nat → Option Nat
  | 0 => fun _ => some 0
  | i + 1 => pr_up (pr_C0 i) (2 * i) (if i = 63 then none else some (i + 1))
theorem pr_C0_at {i : Nat} : ∀ {n : Nat}, n < i → pr_C0 i (2 * n) = if n = 63 then none else some (n + 1) := by
  induction i with
  | zero =>
    intro n h
    omega
  | succ i ih =>
    intro n h
    show pr_up (pr_C0 i) (2 * i) (if i = 63 then none else some (i + 1)) (2 * n) = _
    by_cases e : n = i
    · rw [e, pr_up_s]
    · rw [pr_up_n (by omega)]
      exact ih (by omega)
theorem pr_fl0 {d : Nat} : ∀ {i : Nat}, i + d = 64 → pr_fl (pr_C0 64) (pr_seq i d) (if d = 0 then none else some i) := by
  induction d with
  | zero =>
    intro i _
    rfl
  | succ d ih =>
    intro i h
    refine ⟨by rw [if_neg (by omega)], ?_⟩
    rw [pr_C0_at (by omega)]
    have := ih (i := i + 1) (by omega)
    by_cases e : i = 63
    · rw [if_pos (show d = 0 by omega)] at this
      rw [if_pos e]
      exact this
    · rw [if_neg (show ¬ d = 0 by omega)] at this
      rw [if_neg e]
      exact this
theorem pr_G0 : pr_G (fun _ => false) (fun _ => 0) (fun _ => 0) (fun _ => some 0) (pr_C0 64) none 0 (some 0) := by
  refine ⟨⟨(fun n hn => nomatch hn), (fun n m hn => nomatch hn), fun o b ho hb => ?_⟩, (fun n q hn => nomatch hn), (fun n b hn => nomatch hn), pr_cnt_zero (fun k _ z => nomatch z.1), by omega, pr_seq 0 64, pr_fl0 (d := 64) (i := 0) rfl, pr_seq_nodup, fun n hn => ⟨by have := pr_seq_mem hn; omega, rfl⟩, by rw [pr_seq_len, pr_cnt_zero (fun k _ z => nomatch z)]⟩
  cases o with
  | none => exact ⟨(fun _ m hm => nomatch hm.1), fun c e => nomatch e⟩
  | some k => exact nomatch ho k rfl
theorem pr_w_init {post : St1 → Prop} (H : ∀ u E hd, pr_OK E hd u → post u) : wpX_init post 9 585 (0, 0, 0, 0, 0) := by
  unfold wpX_init
  dsimp only
  have key : ∀ m i, 64 < i + m → i ≤ 64 → wX_init_79 post 9 585 9 585 0 0 0 0 0 m (nI i) (fun _ => 0) (fun _ => 0) (fun _ => 0) (fun _ => 0) (pr_oA (pr_C0 i)) (fun _ => 0) (fun _ => 0) (fun _ => 0) (fun _ => 0) := by
    intro m
    induction m with
    | zero =>
      intro i h1 h2
      omega
    | succ m ih =>
      intro i hm hi
      have next := ih (i + 1)
      refine pk_le 64 i (fun z => ?_) (fun z => ?_)
      · have e : i = 64 := by omega
        subst e
        exact H _ (pr_E (fun _ => false) (fun _ => 0) (fun _ => 0) (fun _ => some 0)) 0 ⟨fun _ => false, fun _ => 0, fun _ => 0, fun _ => some 0, pr_C0 64, none, some 0, 0, 0, fun _ => 0, fun _ => 0, fun _ => 0, fun _ => 0, pr_G0, rfl, rfl⟩
      · have e0 : pr_C0 (i + 1) = pr_up (pr_C0 i) (2 * i) (if i = 63 then none else some (i + 1)) := rfl
        rw [e0] at next
        refine pk_eq i 63 (fun e => ?_) (fun e => ?_)
        · rw [if_pos e] at next
          refine ⟨pk_in (2 * i) 128 (by omega) (pr_ix0 i), nm_r (e' := pr_oA (pr_up (pr_C0 i) (2 * i) none)) (by rw [pr_ix0, nI_clamp (by omega)]; exact pr_upd_o _ _ none) (nm_r (nI_1 i) (next (by omega) (by omega)))⟩
        · rw [if_neg e] at next
          refine ⟨pk_in (2 * i) 128 (by omega) (pr_ix0 i), nm_r (e' := pr_oA (pr_up (pr_C0 i) (2 * i) (some (i + 1)))) (by rw [pr_ix0, nI_clamp (by omega), nI_1]; exact pr_upd_o _ _ (some (i + 1))) (nm_r (nI_1 i) (next (by omega) (by omega)))⟩
  refine ⟨by omega, by omega, by omega, by omega, by omega, by omega, by omega, by omega, by omega, by omega, by omega, by omega, by omega, by omega, by omega, by omega, by omega, by omega, 65, ?_⟩
  exact key 65 0 (by omega) (by omega)
theorem pr_addr : ∀ j, j < 8 → ∀ k, k < 8 → (nI j <<< ((13 : Int32) &&& 31)) ||| nI k = nI (j * 8192 + k) := by decide +kernel
theorem pr_kc0 {E : Nat → Nat → Nat → Prop} {q : Nat} (h : ∀ l p, ¬ E l p q) : pr_kc E (fun _ _ q' => q' = q) = 0 := by
  unfold pr_kc
  refine pr_cnt_zero ?_
  rintro j _ ⟨q', h1, h2⟩
  rw [h2] at h1
  exact h _ _ h1
section
variable {L : Nat} {xs : Nat → Int32} {J : Int32 → Int32 → Int32 → Int32 → Int32 → Int32 → (Nat → Int32) → (Nat → Int32) → (Nat → Int32) → (Nat → Int32) → (Nat → Int32) → (Nat → Int32) → (Nat → Int32) → (Nat → Int32) → (Nat → Int32) → Prop} {i x kc ks : Nat}
theorem pr_l203 (hx : x < 65536) (next : ∀ E hd h1 h2 h3 h4 h5 a1 a2 a3 a4 a5 a6 a7 a8 a9, pr_OK E hd (h1, h2, h3, h4, h5, a1, a2, a3, a4, a5, a6, a7, a8, a9) → J (nI (i + 4)) h1 h2 h3 h4 h5 a1 a2 a3 a4 a5 a6 a7 a8 a9) :
    ∀ E hd h1 h2 h3 h4 h5 a1 a2 a3 a4 a5 a6 a7 a8 a9, pr_OK E hd (h1, h2, h3, h4, h5, a1, a2, a3, a4, a5, a6, a7, a8, a9) → wL_law_203 (fun r => r = 1) L xs J (nI i) (nI x) kc ks h1 h2 h3 h4 h5 a1 a2 a3 a4 a5 a6 a7 a8 a9 := by
  intro E hd h1 h2 h3 h4 h5 a1 a2 a3 a4 a5 a6 a7 a8 a9 ok
  unfold wL_law_203
  refine pr_w_summed ok hx (fun u ok => ?_)
  obtain ⟨h1, h2, h3, h4, h5, a1, a2, a3, a4, a5, a6, a7, a8, a9⟩ := u
  dsimp only
  exact br_f (by decide) (nm_r (nI_add i 4) (next _ _ _ _ _ _ _ _ _ _ _ _ _ _ _ _ ok))
theorem pr_l192 (hx : x < 65536) (next : ∀ E hd h1 h2 h3 h4 h5 a1 a2 a3 a4 a5 a6 a7 a8 a9, pr_OK E hd (h1, h2, h3, h4, h5, a1, a2, a3, a4, a5, a6, a7, a8, a9) → J (nI (i + 4)) h1 h2 h3 h4 h5 a1 a2 a3 a4 a5 a6 a7 a8 a9) :
    ∀ E hd h1 h2 h3 h4 h5 a1 a2 a3 a4 a5 a6 a7 a8 a9, pr_OK E hd (h1, h2, h3, h4, h5, a1, a2, a3, a4, a5, a6, a7, a8, a9) → wL_law_192 (fun r => r = 1) L xs J (nI i) (nI x) kc ks h1 h2 h3 h4 h5 a1 a2 a3 a4 a5 a6 a7 a8 a9 := by
  intro E hd h1 h2 h3 h4 h5 a1 a2 a3 a4 a5 a6 a7 a8 a9 ok
  unfold wL_law_192
  refine pr_w_back ok hx (fun u E hd ok => ?_)
  obtain ⟨h1, h2, h3, h4, h5, a1, a2, a3, a4, a5, a6, a7, a8, a9⟩ := u
  dsimp only
  exact br_f (by decide) (pr_l203 hx next _ _ _ _ _ _ _ _ _ _ _ _ _ _ _ _ ok)
theorem pr_l70 {x3 : Int32} (hi : i + 4 ≤ L) (hL : L ≤ 260) (hx : x < 65536) (next : ∀ E hd h1 h2 h3 h4 h5 a1 a2 a3 a4 a5 a6 a7 a8 a9, pr_OK E hd (h1, h2, h3, h4, h5, a1, a2, a3, a4, a5, a6, a7, a8, a9) → J (nI (i + 4)) h1 h2 h3 h4 h5 a1 a2 a3 a4 a5 a6 a7 a8 a9) :
    ∀ E hd h1 h2 h3 h4 h5 a1 a2 a3 a4 a5 a6 a7 a8 a9, pr_OK E hd (h1, h2, h3, h4, h5, a1, a2, a3, a4, a5, a6, a7, a8, a9) → wL_law_70 (fun r => r = 1) L xs J (nI i) x3 (nI x) kc ks h1 h2 h3 h4 h5 a1 a2 a3 a4 a5 a6 a7 a8 a9 := by
  intro E hd h1 h2 h3 h4 h5 a1 a2 a3 a4 a5 a6 a7 a8 a9 ok
  unfold wL_law_70
  have i2 : vp_in (nI i + 2) L := pk_in (i + 2) L (by omega) (nI_add i 2)
  obtain ⟨b, hb, eb⟩ := pk_andE (xs (nI i + 2).toNatClampNeg) (m := 255) 8 (by decide)
  obtain ⟨q, hq, eq⟩ := pk_andE (xs (nI i + 3).toNatClampNeg) (m := 7) 3 (by decide)
  have hb : b < 256 := hb
  have hq : q < 8 := hq
  refine ⟨i2, by decide, nm_r (e' := nI (b % 17)) (by rw [eb]; exact pk_rem (d := 17) (by omega) (by omega) (by omega)) ⟨pk_in (i + 3) L (by omega) (nI_add i 3), nm_r eq ?_⟩⟩
  have hlen : b % 17 ≤ 16 := by omega
  have hy := pr_maskS hx
  refine br_c (fun _ => br_c (fun _ => ?_) (fun _ => br_c (fun _ => ⟨i2, br_c (fun _ => ?_) (fun _ => pr_l192 hx next _ _ _ _ _ _ _ _ _ _ _ _ _ _ _ _ ok)⟩) (fun _ => pr_l192 hx next _ _ _ _ _ _ _ _ _ _ _ _ _ _ _ _ ok))) (fun _ => ?_)
  · refine pr_w_deny ok hx hy hlen (fun r u hd E ok _ => ?_)
    obtain ⟨h1, h2, h3, h4, h5, a1, a2, a3, a4, a5, a6, a7, a8, a9⟩ := u
    dsimp only
    exact pr_l203 hx next _ _ _ _ _ _ _ _ _ _ _ _ _ _ _ _ ok
  · refine pr_w_entries ok hq (pr_w_forget ok hq (fun u hd E' ok hno => ?_))
    obtain ⟨h1, h2, h3, h4, h5, a1, a2, a3, a4, a5, a6, a7, a8, a9⟩ := u
    dsimp only
    refine br_t rfl (pr_w_owned (o := some q) ok (fun q' e => by rw [← Option.some.inj e]; exact hq) (fun u ok => ?_))
    obtain ⟨h1, h2, h3, h4, h5, a1, a2, a3, a4, a5, a6, a7, a8, a9⟩ := u
    dsimp only
    have e0 : pr_cnt (fun x => pr_pe E' x = some q) 65536 = 0 := pr_cnt_zero (fun x _ e => by
      obtain ⟨l, p, h⟩ := pr_OK_pe ok x q e
      exact hno l p h)
    rw [e0]
    refine br_t rfl (pr_w_entries ok hq ?_)
    rw [pr_kc0 hno]
    exact br_t rfl (pr_l203 hx next _ _ _ _ _ _ _ _ _ _ _ _ _ _ _ _ ok)
  · refine pr_w_allow ok hx hy hlen hq (fun r u hd E ok _ => ?_)
    obtain ⟨h1, h2, h3, h4, h5, a1, a2, a3, a4, a5, a6, a7, a8, a9⟩ := u
    dsimp only
    exact pr_l203 hx next _ _ _ _ _ _ _ _ _ _ _ _ _ _ _ _ ok
end
theorem i_vc (xs : Nat → Int32) (L : Nat) (hL : L ≤ 260) : wpL_law (fun r => r = 1) L xs := by
  unfold wpL_law
  refine ⟨9, 585, by omega, by omega, pr_w_init (fun u E hd ok => ?_)⟩
  obtain ⟨h1, h2, h3, h4, h5, a1, a2, a3, a4, a5, a6, a7, a8, a9⟩ := u
  dsimp only
  have key : ∀ m i E hd h1 h2 h3 h4 h5 a1 a2 a3 a4 a5 a6 a7 a8 a9, L + 4 < i + m → i ≤ L + 4 → pr_OK E hd (h1, h2, h3, h4, h5, a1, a2, a3, a4, a5, a6, a7, a8, a9) → wL_law_10 (fun r => r = 1) L xs (1 + 9) (14 + 585) m (nI i) h1 h2 h3 h4 h5 a1 a2 a3 a4 a5 a6 a7 a8 a9 := by
    intro m
    induction m with
    | zero =>
      intro i E hd h1 h2 h3 h4 h5 a1 a2 a3 a4 a5 a6 a7 a8 a9 hm hi ok
      omega
    | succ m ih =>
      intro i E hd h1 h2 h3 h4 h5 a1 a2 a3 a4 a5 a6 a7 a8 a9 hm hi ok
      refine pk_lt L (i + 4) (fun _ => rfl) (fun z => ?_) rfl (nI_add i 4) (by omega) (by omega)
      have i1 : vp_in (nI i + 1) L := pk_in (i + 1) L (by omega) (nI_1 i)
      have next : ∀ E hd h1 h2 h3 h4 h5 a1 a2 a3 a4 a5 a6 a7 a8 a9, pr_OK E hd (h1, h2, h3, h4, h5, a1, a2, a3, a4, a5, a6, a7, a8, a9) → wL_law_10 (fun r => r = 1) L xs (1 + 9) (14 + 585) m (nI (i + 4)) h1 h2 h3 h4 h5 a1 a2 a3 a4 a5 a6 a7 a8 a9 := fun E hd h1 h2 h3 h4 h5 a1 a2 a3 a4 a5 a6 a7 a8 a9 ok => ih (i + 4) E hd h1 h2 h3 h4 h5 a1 a2 a3 a4 a5 a6 a7 a8 a9 (by omega) (by omega) ok
      refine ⟨pk_in i L (by omega), nm_e ⟨i1, br_c (fun _ => ⟨i1, i1, ?_⟩) (fun _ => ⟨i1, ?_⟩)⟩⟩
      · obtain ⟨j, hj, ej⟩ := pk_andE (xs (nI i + 1).toNatClampNeg) (m := 7) 3 (by decide)
        obtain ⟨k, hk, ek⟩ := pk_andE (xs (nI i + 1).toNatClampNeg >>> ((3 : Int32) &&& 31)) (m := 7) 3 (by decide)
        have hj : j < 8 := hj
        have hk : k < 8 := hk
        rw [ej, ek, pr_addr j hj k hk]
        exact pr_l70 z hL (by omega) next _ _ _ _ _ _ _ _ _ _ _ _ _ _ _ _ ok
      · obtain ⟨k, hk, ek⟩ := pr_maskI (xs (nI i + 1).toNatClampNeg)
        rw [ek]
        exact pr_l70 z hL hk next _ _ _ _ _ _ _ _ _ _ _ _ _ _ _ _ ok
  exact ⟨L + 9, key (L + 9) 0 E hd h1 h2 h3 h4 h5 a1 a2 a3 a4 a5 a6 a7 a8 a9 (by omega) (by omega) ok⟩
end
