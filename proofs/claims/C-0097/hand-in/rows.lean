section
/-! rows of kit/rows, pasted: a starting text -/
theorem pk_us {f : Nat → Int32} {k : Nat} {x : Int32} : upd f k x k = x := if_pos rfl
theorem pk_un {f : Nat → Int32} {k j : Nat} {x : Int32} (h : j ≠ k) : upd f k x j = f j := if_neg h
theorem pk_sub {a b : Nat} (h : b ≤ a) : nI a - nI b = nI (a - b) := by
  obtain ⟨c, rfl⟩ : ∃ c, a = c + b := ⟨a - b, by omega⟩
  rw [← nI_add, Int32.add_sub_cancel, Nat.add_sub_cancel]
theorem pk_m1 (n : Nat) : nI (n + 1) + (-1) = nI n := by
  rw [← nI_1, Int32.add_assoc, show (1 : Int32) + (-1) = 0 from rfl, Int32.add_zero]
theorem pk_mul (a b : Nat) : nI a * nI b = nI (a * b) := (Int32.ofNat_mul a b).symm
theorem pk_ix (x : Int32) {n : Nat} (hn : n < 2 ^ 31) : x < 0 ∨ nI n ≤ x ∨ ∃ j : Nat, j < n ∧ x = nI j := by
  by_cases h : x < 0
  · exact Or.inl h
  · obtain ⟨j, hj, rfl⟩ := nI_of h
    by_cases h2 : j < n
    · exact Or.inr (Or.inr ⟨j, h2, rfl⟩)
    · exact Or.inr (Or.inl (nI_le (by omega) hj))
theorem pk_le {x y : Int32} {A B : Prop} (a b : Nat) (f : a ≤ b → A) (g : b < a → B) (hx : x = nI a := by rfl) (hy : y = nI b := by rfl) (ha : a < 2 ^ 31 := by omega) (hb : b < 2 ^ 31 := by omega) : (x ≤ y → A) ∧ (¬ x ≤ y → B) := by
  subst hx hy
  rw [nI_leI ha hb]
  exact ⟨f, fun z => g (by omega)⟩
theorem pk_lt {x y : Int32} {A B : Prop} (a b : Nat) (f : a < b → A) (g : b ≤ a → B) (hx : x = nI a := by rfl) (hy : y = nI b := by rfl) (ha : a < 2 ^ 31 := by omega) (hb : b < 2 ^ 31 := by omega) : (x < y → A) ∧ (¬ x < y → B) := by
  subst hx hy
  rw [nI_ltI ha hb]
  exact ⟨f, fun z => g (by omega)⟩
theorem pk_eq {x y : Int32} {A B : Prop} (a b : Nat) (f : a = b → A) (g : a ≠ b → B) (hx : x = nI a := by rfl) (hy : y = nI b := by rfl) (ha : a < 2 ^ 31 := by omega) (hb : b < 2 ^ 31 := by omega) : (x = y → A) ∧ (¬ x = y → B) := by
  subst hx hy
  rw [nI_eq ha hb]
  exact ⟨f, g⟩
theorem pk_in {x : Int32} (n N : Nat) (h : n < N) (hx : x = nI n := by rfl) (hN : N < 2 ^ 31 := by omega) : vp_in x N := by
  subst hx
  exact vp_in_nI h hN
theorem pk_cl {x : Int32} (n : Nat) (hx : x = nI n := by rfl) (h : n < 2 ^ 31 := by omega) : x.toNatClampNeg = n := by
  subst hx
  exact nI_clamp h
theorem pk_tn {n : Nat} (h : n < 2 ^ 32) : (nI n).toBitVec.toNat = n := Nat.mod_eq_of_lt h
theorem pk_and (x : Int32) {m : Int32} (k : Nat) (hm : m.toBitVec.toNat = 2 ^ k - 1) : x &&& m = nI (x.toBitVec.toNat % 2 ^ k) := by
  apply Int32.toBitVec_inj.mp
  apply BitVec.eq_of_toNat_eq
  rw [Int32.toBitVec_and, BitVec.toNat_and, hm, Nat.and_two_pow_sub_one_eq_mod]
  show _ = (BitVec.ofNat 32 _).toNat
  rw [BitVec.toNat_ofNat]
  exact (Nat.mod_eq_of_lt (Nat.lt_of_le_of_lt (Nat.mod_le _ _) x.toBitVec.isLt)).symm
theorem pk_andN {n : Nat} (h : n < 2 ^ 32) {m : Int32} (k : Nat) (hm : m.toBitVec.toNat = 2 ^ k - 1) : nI n &&& m = nI (n % 2 ^ k) := by
  rw [pk_and _ k hm, pk_tn h]
theorem pk_andE (x : Int32) {m : Int32} (k : Nat) (hm : m.toBitVec.toNat = 2 ^ k - 1) : ∃ j : Nat, j < 2 ^ k ∧ x &&& m = nI j := ⟨_, Nat.mod_lt _ (Nat.two_pow_pos k), pk_and x k hm⟩
theorem pk_shl (a s : Int32) (k : Nat) (hs : (s.toBitVec.smod 32).toNat = k) : (a <<< s).toBitVec.toNat = a.toBitVec.toNat * 2 ^ k % 2 ^ 32 := by
  show (a.toBitVec <<< (s.toBitVec.smod 32).toNat).toNat = _
  rw [hs, BitVec.toNat_shiftLeft, Nat.shiftLeft_eq]
theorem pk_shlN {n : Nat} (s : Int32) (k : Nat) (hs : (s.toBitVec.smod 32).toNat = k) (h : n * 2 ^ k < 2 ^ 32) : nI n <<< s = nI (n * 2 ^ k) := by
  apply Int32.toBitVec_inj.mp
  apply BitVec.eq_of_toNat_eq
  have hn : n < 2 ^ 32 := Nat.lt_of_le_of_lt (Nat.le_mul_of_pos_right n (Nat.two_pow_pos k)) h
  rw [pk_shl _ _ k hs, pk_tn hn, pk_tn h, Nat.mod_eq_of_lt h]
theorem pk_shr (a s : Int32) (k : Nat) (hs : (s.toBitVec.smod 32).toNat = k) : (a >>> s).toInt = a.toInt >>> k := by
  show (a.toBitVec.sshiftRight (s.toBitVec.smod 32).toNat).toInt = _
  rw [hs, BitVec.toInt_sshiftRight]
  rfl
theorem pk_shrN {n : Nat} (h : n < 2 ^ 31) (s : Int32) (k : Nat) (hs : (s.toBitVec.smod 32).toNat = k) : nI n >>> s = nI (n / 2 ^ k) := by
  apply Int32.toInt_inj.mp
  have h2 : n / 2 ^ k ≤ n := Nat.div_le_self _ _
  rw [pk_shr _ _ k hs, nI_toInt h, nI_toInt (by omega), Int.shiftRight_eq_div_pow]
  rfl
def bt (x : Int32) (i : Nat) : Bool := x.toBitVec.getLsbD i
theorem b_ext {x y : Int32} (h : ∀ i, i < 32 → bt x i = bt y i) : x = y := Int32.toBitVec_inj.mp (BitVec.eq_of_getLsbD_eq (fun i hi => h i hi))
theorem b_or (x y : Int32) (i : Nat) : bt (x ||| y) i = (bt x i || bt y i) := by unfold bt; rw [Int32.toBitVec_or, BitVec.getLsbD_or]
theorem b_and (x y : Int32) (i : Nat) : bt (x &&& y) i = (bt x i && bt y i) := by unfold bt; rw [Int32.toBitVec_and, BitVec.getLsbD_and]
theorem b_xor (x y : Int32) (i : Nat) : bt (x ^^^ y) i = (bt x i ^^ bt y i) := by unfold bt; rw [Int32.toBitVec_xor, BitVec.getLsbD_xor]
theorem b_m1 : ∀ i, i < 32 → bt (-1) i = true := by decide +kernel
theorem s_l : ∀ n, n < 32 → ((nI n &&& 31).toBitVec.smod 32).toNat = n := by decide +kernel
theorem nx_and (a b : Nat) : nI a &&& nI b = nI (a &&& b) := by
  apply Int32.toBitVec_inj.1
  show BitVec.ofNat 32 a &&& BitVec.ofNat 32 b = BitVec.ofNat 32 (a &&& b)
  apply BitVec.eq_of_getLsbD_eq
  intro i hi
  simp [hi]
theorem nx_xor (a b : Nat) : nI a ^^^ nI b = nI (a ^^^ b) := by
  apply Int32.toBitVec_inj.1
  show BitVec.ofNat 32 a ^^^ BitVec.ofNat 32 b = BitVec.ofNat 32 (a ^^^ b)
  apply BitVec.eq_of_getLsbD_eq
  intro i hi
  simp [hi]
end
section
/-! sums below a number; sets of tasks as masks below 64; the condition of Hall; assignments -/
def im_s : Nat → (Nat → Nat) → Nat
  | 0, _ => 0
  | n + 1, f => im_s n f + f n
theorem im_s_c {f g : Nat → Nat} : ∀ {n : Nat}, (∀ i, i < n → f i = g i) → im_s n f = im_s n g
  | 0, _ => rfl
  | n + 1, h => by
    show im_s n f + f n = im_s n g + g n
    rw [im_s_c (n := n) (fun i hi => h i (by omega)), h n (by omega)]
theorem im_s_le {f g : Nat → Nat} : ∀ {n : Nat}, (∀ i, i < n → f i ≤ g i) → im_s n f ≤ im_s n g
  | 0, _ => Nat.le_refl _
  | n + 1, h => by
    have a := im_s_le (n := n) (fun i hi => h i (by omega))
    have b := h n (by omega)
    show im_s n f + f n ≤ im_s n g + g n
    omega
theorem im_s_lt {f g : Nat → Nat} {a : Nat} : ∀ {n : Nat}, (∀ i, i < n → f i ≤ g i) → a < n → f a < g a → im_s n f < im_s n g
  | 0, _, h, _ => by omega
  | n + 1, h, ha, hl => by
    have b := h n (by omega)
    show im_s n f + f n < im_s n g + g n
    rcases Nat.lt_or_ge a n with z | z
    · have c := im_s_lt (n := n) (fun i hi => h i (by omega)) z hl
      omega
    · have e : a = n := by omega
      subst e
      have c := im_s_le (n := a) (fun i hi => h i (by omega))
      omega
theorem im_s_add {f g : Nat → Nat} : ∀ {n : Nat}, im_s n (fun i => f i + g i) = im_s n f + im_s n g
  | 0 => rfl
  | n + 1 => by
    have a := im_s_add (f := f) (g := g) (n := n)
    show im_s n (fun i => f i + g i) + (f n + g n) = (im_s n f + f n) + (im_s n g + g n)
    omega
theorem im_s_0 {f : Nat → Nat} : ∀ {n : Nat}, (∀ i, i < n → f i = 0) → im_s n f = 0
  | 0, _ => rfl
  | n + 1, h => by
    show im_s n f + f n = 0
    rw [im_s_0 (n := n) (fun i hi => h i (by omega)), h n (by omega)]
theorem im_s_sw {f : Nat → Nat → Nat} {m : Nat} : ∀ {n : Nat}, im_s n (fun i => im_s m (fun j => f i j)) = im_s m (fun j => im_s n (fun i => f i j))
  | 0 => (im_s_0 (fun _ _ => rfl)).symm
  | n + 1 => by
    show im_s n (fun i => im_s m (fun j => f i j)) + im_s m (fun j => f n j) = im_s m (fun j => im_s n (fun i => f i j) + f n j)
    rw [im_s_add, im_s_sw (n := n)]
theorem im_s_1 {a x : Nat} : ∀ {n : Nat}, a < n → im_s n (fun i => if i = a then x else 0) = x
  | 0, h => by omega
  | n + 1, h => by
    show im_s n (fun i => if i = a then x else 0) + (if n = a then x else 0) = x
    rcases Nat.lt_or_ge a n with z | z
    · rw [im_s_1 z, if_neg (by omega)]; rfl
    · rw [im_s_0 (fun i hi => if_neg (by omega)), if_pos (by omega)]; omega
theorem im_s_mem {f : Nat → Nat} {a : Nat} : ∀ {n : Nat}, a < n → f a ≤ im_s n f
  | 0, h => by omega
  | n + 1, h => by
    show f a ≤ im_s n f + f n
    rcases Nat.lt_or_ge a n with z | z
    · have := im_s_mem (f := f) z; omega
    · have e : a = n := by omega
      subst e; omega
theorem im_s_mul {f : Nat → Nat} {k : Nat} : ∀ {n : Nat}, im_s n (fun i => k * f i) = k * im_s n f
  | 0 => rfl
  | n + 1 => by
    show im_s n (fun i => k * f i) + k * f n = k * (im_s n f + f n)
    rw [im_s_mul (n := n), Nat.mul_add]
theorem im_s_k {x : Nat} : ∀ {n : Nat}, im_s n (fun _ => x) = n * x
  | 0 => by simp [im_s]
  | n + 1 => by
    show im_s n (fun _ => x) + x = (n + 1) * x
    rw [im_s_k (n := n), Nat.add_mul, Nat.one_mul]
/-- some index below n -/
def im_any : Nat → (Nat → Bool) → Bool
  | 0, _ => false
  | n + 1, p => im_any n p || p n
theorem im_any_i {p : Nat → Bool} : ∀ {n : Nat}, im_any n p = true ↔ ∃ j, j < n ∧ p j = true
  | 0 => by simp [im_any]
  | n + 1 => by
    show (im_any n p || p n) = true ↔ _
    rw [Bool.or_eq_true, im_any_i (n := n)]
    constructor
    · rintro (⟨j, hj, h⟩ | h)
      · exact ⟨j, by omega, h⟩
      · exact ⟨n, by omega, h⟩
    · rintro ⟨j, hj, h⟩
      rcases Nat.lt_or_ge j n with z | z
      · exact Or.inl ⟨j, z, h⟩
      · have e : j = n := by omega
        subst e; exact Or.inr h
theorem im_any_f {p : Nat → Bool} {n : Nat} : im_any n p = false ↔ ∀ j, j < n → p j = false := by
  rw [← Bool.not_eq_true, im_any_i]
  constructor
  · intro h j hj
    rw [← Bool.not_eq_true]
    exact fun z => h ⟨j, hj, z⟩
  · rintro h ⟨j, hj, z⟩
    rw [h j hj] at z; cases z
theorem im_any_c {p q : Nat → Bool} {n : Nat} (h : ∀ j, j < n → p j = q j) : im_any n p = im_any n q := by
  rw [Bool.eq_iff_iff, im_any_i, im_any_i]
  constructor
  · rintro ⟨j, hj, z⟩; exact ⟨j, hj, by rw [← h j hj]; exact z⟩
  · rintro ⟨j, hj, z⟩; exact ⟨j, hj, by rw [h j hj]; exact z⟩
def im_nb (g : Nat → Nat → Bool) (S t : Nat) : Bool := im_any 6 (fun j => S.testBit j && g j t)
def im_rm (g : Nat → Nat → Bool) (S : Nat) : Nat := im_s 24 (fun t => (im_nb g S t).toNat)
def im_dm (c : Nat → Nat) (S : Nat) : Nat := im_s 6 (fun j => if S.testBit j = true then c j else 0)
def im_H (g : Nat → Nat → Bool) (c : Nat → Nat) : Prop := ∀ S, S < 64 → im_dm c S ≤ im_rm g S
theorem im_nb_i {g : Nat → Nat → Bool} {S t : Nat} : im_nb g S t = true ↔ ∃ j, j < 6 ∧ S.testBit j = true ∧ g j t = true := by
  unfold im_nb
  rw [im_any_i]
  constructor
  · rintro ⟨j, hj, h⟩
    rw [Bool.and_eq_true] at h
    exact ⟨j, hj, h.1, h.2⟩
  · rintro ⟨j, hj, h, h2⟩
    exact ⟨j, hj, by rw [Bool.and_eq_true]; exact ⟨h, h2⟩⟩
theorem im_nb_or {g : Nat → Nat → Bool} {S T t : Nat} : im_nb g (S ||| T) t = (im_nb g S t || im_nb g T t) := by
  rw [Bool.eq_iff_iff, Bool.or_eq_true, im_nb_i, im_nb_i, im_nb_i]
  constructor
  · rintro ⟨j, hj, h, h2⟩
    rw [Nat.testBit_or, Bool.or_eq_true] at h
    rcases h with h | h
    · exact Or.inl ⟨j, hj, h, h2⟩
    · exact Or.inr ⟨j, hj, h, h2⟩
  · rintro (⟨j, hj, h, h2⟩ | ⟨j, hj, h, h2⟩)
    · exact ⟨j, hj, by rw [Nat.testBit_or, h]; rfl, h2⟩
    · exact ⟨j, hj, by rw [Nat.testBit_or, h, Bool.or_true], h2⟩
theorem im_nb_and {g : Nat → Nat → Bool} {S T t : Nat} (h : im_nb g (S &&& T) t = true) : im_nb g S t = true ∧ im_nb g T t = true := by
  rw [im_nb_i] at h
  obtain ⟨j, hj, h, h2⟩ := h
  rw [Nat.testBit_and, Bool.and_eq_true] at h
  exact ⟨im_nb_i.mpr ⟨j, hj, h.1, h2⟩, im_nb_i.mpr ⟨j, hj, h.2, h2⟩⟩
theorem im_rm_sub (g : Nat → Nat → Bool) (S T : Nat) : im_rm g (S ||| T) + im_rm g (S &&& T) ≤ im_rm g S + im_rm g T := by
  unfold im_rm
  rw [← im_s_add, ← im_s_add]
  refine im_s_le fun t _ => ?_
  have h := @im_nb_and g S T t
  rw [im_nb_or]
  revert h
  cases im_nb g (S &&& T) t <;> cases im_nb g S t <;> cases im_nb g T t <;> simp
theorem im_dm_mod (c : Nat → Nat) (S T : Nat) : im_dm c (S ||| T) + im_dm c (S &&& T) = im_dm c S + im_dm c T := by
  unfold im_dm
  rw [← im_s_add, ← im_s_add]
  refine im_s_c fun j _ => ?_
  rw [Nat.testBit_or, Nat.testBit_and]
  cases S.testBit j <;> cases T.testBit j <;> simp
theorem im_or64 {S T : Nat} (h : S < 64) (h2 : T < 64) : S ||| T < 64 := Nat.or_lt_two_pow (n := 6) h h2
theorem im_and64 {S T : Nat} (h : S < 64) : S &&& T < 64 := Nat.lt_of_le_of_lt Nat.and_le_left h
theorem im_tor {g : Nat → Nat → Bool} {c : Nat → Nat} {S T : Nat} (H : im_H g c) (hS : S < 64) (hT : T < 64) (tS : im_rm g S ≤ im_dm c S) (tT : im_rm g T ≤ im_dm c T) : im_rm g (S ||| T) ≤ im_dm c (S ||| T) := by
  have a := im_rm_sub g S T
  have b := im_dm_mod c S T
  have d := H (S &&& T) (im_and64 hS)
  omega
theorem im_rm_0 (g : Nat → Nat → Bool) : im_rm g 0 = 0 := by
  unfold im_rm
  refine im_s_0 fun t _ => ?_
  have : im_nb g 0 t = false := by
    rw [← Bool.not_eq_true, im_nb_i]
    rintro ⟨j, _, h, _⟩
    rw [Nat.zero_testBit] at h; cases h
  rw [this]; rfl
/-- tight sets join: one tight set serves all that q asks for -/
theorem im_un {g : Nat → Nat → Bool} {c : Nat → Nat} (H : im_H g c) (q : Nat → Prop) (R : Nat → Nat → Prop) (hl : ∀ i S T, R i S → R i (S ||| T)) (hr : ∀ i S T, R i T → R i (S ||| T)) : ∀ n, (∀ i, i < n → q i → ∃ S, S < 64 ∧ R i S ∧ im_rm g S ≤ im_dm c S) → ∃ S, S < 64 ∧ (∀ i, i < n → q i → R i S) ∧ im_rm g S ≤ im_dm c S
  | 0, _ => ⟨0, by omega, fun i hi => by omega, by rw [im_rm_0]; omega⟩
  | n + 1, h => by
    obtain ⟨S, hS, a, tS⟩ := im_un H q R hl hr n (fun i hi => h i (by omega))
    rcases Classical.em (q n) with z | z
    · obtain ⟨T, hT, b, tT⟩ := h n (by omega) z
      refine ⟨S ||| T, im_or64 hS hT, fun i hi hq => ?_, im_tor H hS hT tS tT⟩
      rcases Nat.lt_or_ge i n with y | y
      · exact hl i S T (a i y hq)
      · have e : i = n := by omega
        subst e; exact hr i S T b
    · refine ⟨S, hS, fun i hi hq => ?_, tS⟩
      rcases Nat.lt_or_ge i n with y | y
      · exact a i y hq
      · have e : i = n := by omega
        subst e; exact absurd hq z
theorem im_dm_le {c d : Nat → Nat} {S : Nat} (h : ∀ j, j < 6 → c j ≤ d j) : im_dm c S ≤ im_dm d S := by
  refine im_s_le fun j hj => ?_
  have := h j hj
  cases S.testBit j <;> simp [this]
theorem im_dm_c {c d : Nat → Nat} {S : Nat} (h : ∀ j, j < 6 → c j = d j) : im_dm c S = im_dm d S := by
  refine im_s_c fun j hj => ?_
  rw [h j hj]
theorem im_H_le {g : Nat → Nat → Bool} {c d : Nat → Nat} (H : im_H g d) (h : ∀ j, j < 6 → c j ≤ d j) : im_H g c :=
  fun S hS => Nat.le_trans (im_dm_le h) (H S hS)
theorem im_H_c {g : Nat → Nat → Bool} {c d : Nat → Nat} (h : ∀ j, j < 6 → c j = d j) : im_H g c ↔ im_H g d :=
  ⟨fun H => im_H_le H (fun j hj => by rw [h j hj]; exact Nat.le_refl _), fun H => im_H_le H (fun j hj => by rw [h j hj]; exact Nat.le_refl _)⟩
theorem im_nb_c {g g' : Nat → Nat → Bool} {S t : Nat} (h : ∀ j, j < 6 → g j t = g' j t) : im_nb g S t = im_nb g' S t :=
  im_any_c fun j hj => by rw [h j hj]
theorem im_nb_le {g g' : Nat → Nat → Bool} {S t : Nat} (h : ∀ j, j < 6 → g j t = true → g' j t = true) (z : im_nb g S t = true) : im_nb g' S t = true := by
  rw [im_nb_i] at z ⊢
  obtain ⟨j, hj, a, b⟩ := z
  exact ⟨j, hj, a, h j hj b⟩
theorem im_tn_le {a b : Bool} (h : a = true → b = true) : a.toNat ≤ b.toNat := by
  revert h; cases a <;> cases b <;> simp
theorem im_rm_le {g g' : Nat → Nat → Bool} {S : Nat} (h : ∀ j t, j < 6 → t < 24 → g j t = true → g' j t = true) : im_rm g S ≤ im_rm g' S :=
  im_s_le fun t ht => im_tn_le (im_nb_le fun j hj => h j t hj ht)
theorem im_rm_c {g g' : Nat → Nat → Bool} {S : Nat} (h : ∀ j t, j < 6 → t < 24 → g j t = g' j t) : im_rm g S = im_rm g' S :=
  im_s_c fun t ht => by rw [im_nb_c fun j hj => h j t hj ht]
theorem im_H_g {g g' : Nat → Nat → Bool} {c : Nat → Nat} (h : ∀ j t, j < 6 → t < 24 → g j t = true → g' j t = true) (H : im_H g c) : im_H g' c :=
  fun S hS => Nat.le_trans (H S hS) (im_rm_le h)
theorem im_H_gc {g g' : Nat → Nat → Bool} {c : Nat → Nat} (h : ∀ j t, j < 6 → t < 24 → g j t = g' j t) : im_H g c ↔ im_H g' c :=
  ⟨im_H_g fun j t hj ht z => by rw [← h j t hj ht]; exact z, im_H_g fun j t hj ht z => by rw [h j t hj ht]; exact z⟩
theorem im_inf {g : Nat → Nat → Bool} {c d : Nat → Nat} {S j : Nat} (hS : S < 64) (hj : j < 6) (hb : S.testBit j = true) (ht : im_rm g S ≤ im_dm c S) (hle : ∀ i, i < 6 → S.testBit i = true → c i ≤ d i) (hlt : c j < d j) : ¬ im_H g d := by
  intro H
  have a := H S hS
  have b : im_dm c S < im_dm d S := by
    refine im_s_lt (a := j) (fun i hi => ?_) hj ?_
    · have := hle i hi
      revert this
      cases S.testBit i <;> simp
    · rw [hb]; simpa using hlt
  omega
theorem im_split (f : Nat → Nat) (S : Nat) : im_s 6 f = im_dm f S + im_s 6 (fun j => if S.testBit j = true then 0 else f j) := by
  unfold im_dm
  rw [← im_s_add]
  refine im_s_c fun j _ => ?_
  cases S.testBit j <;> simp
theorem im_dm_add {c d : Nat → Nat} {S : Nat} : im_dm (fun j => c j + d j) S = im_dm c S + im_dm d S := by
  unfold im_dm
  rw [← im_s_add]
  refine im_s_c fun j _ => ?_
  cases S.testBit j <;> simp
/-! assignments: o t is the task of unit t, 6 for nobody -/
def im_u (f : Nat → Nat) (k x : Nat) : Nat → Nat := fun j => if j = k then x else f j
theorem im_us {f : Nat → Nat} {k x : Nat} : im_u f k x k = x := if_pos rfl
theorem im_un' {f : Nat → Nat} {k x j : Nat} (h : j ≠ k) : im_u f k x j = f j := if_neg h
def im_ct (o : Nat → Nat) (j : Nat) : Nat := im_s 24 (fun t => if o t = j then 1 else 0)
def im_V (g : Nat → Nat → Bool) (o : Nat → Nat) : Prop := ∀ t, t < 24 → o t = 6 ∨ (o t < 6 ∧ g (o t) t = true)
theorem im_dm_ct (o : Nat → Nat) (S : Nat) : im_dm (im_ct o) S = im_s 24 (fun t => if o t < 6 ∧ S.testBit (o t) = true then 1 else 0) := by
  unfold im_dm im_ct
  have e : ∀ j, j < 6 → (if S.testBit j = true then im_s 24 (fun t => if o t = j then 1 else 0) else 0) = im_s 24 (fun t => if o t = j then (if S.testBit j = true then 1 else 0) else 0) := by
    intro j _
    cases S.testBit j
    · simp only [Bool.false_eq_true, if_false]
      exact (im_s_0 fun t _ => by split <;> rfl).symm
    · simp only [if_true]
  rw [im_s_c e, im_s_sw]
  refine im_s_c fun t _ => ?_
  rcases Nat.lt_or_ge (o t) 6 with h | h
  · rw [show (fun i => if o t = i then (if S.testBit i = true then 1 else 0) else 0) = (fun i => if i = o t then (if S.testBit (o t) = true then 1 else 0) else 0) from ?_]
    · rw [im_s_1 h]
      cases S.testBit (o t) <;> simp [h]
    · funext i
      by_cases e : i = o t
      · subst e; simp
      · rw [if_neg (fun z => e z.symm), if_neg e]
  · rw [if_neg (by omega)]
    exact im_s_0 fun i hi => if_neg (by omega)
theorem im_V_H {g : Nat → Nat → Bool} {o : Nat → Nat} (V : im_V g o) : im_H g (im_ct o) := by
  intro S _
  rw [im_dm_ct]
  refine im_s_le fun t ht => ?_
  by_cases h : o t < 6 ∧ S.testBit (o t) = true
  · rw [if_pos h]
    rcases V t ht with z | z
    · omega
    · have : im_nb g S t = true := im_nb_i.mpr ⟨o t, h.1, h.2, z.2⟩
      rw [this]; exact Nat.le_refl _
  · rw [if_neg h]; omega
theorem im_tight {g : Nat → Nat → Bool} {o : Nat → Nat} {S : Nat} (h : ∀ t, t < 24 → im_nb g S t = true → o t < 6 ∧ S.testBit (o t) = true) : im_rm g S ≤ im_dm (im_ct o) S := by
  rw [im_dm_ct]
  refine im_s_le fun t ht => ?_
  have := h t ht
  revert this
  cases im_nb g S t
  · intro _; exact Nat.zero_le _
  · intro z; rw [if_pos (z rfl)]; exact Nat.le_refl _
theorem im_ct_u {o : Nat → Nat} {t j i : Nat} (ht : t < 24) (hi : i < 6) : im_ct (im_u o t j) i = im_ct (im_u o t 6) i + (if i = j then 1 else 0) := by
  unfold im_ct
  have e : ∀ s, s < 24 → (if im_u o t j s = i then 1 else 0) = (if im_u o t 6 s = i then 1 else 0) + (if s = t then (if i = j then 1 else 0) else 0) := by
    intro s _
    by_cases h : s = t
    · subst h
      rw [im_us, im_us, if_neg (show ¬ 6 = i by omega), if_pos rfl, Nat.zero_add]
      by_cases z : i = j
      · rw [if_pos z, if_pos z.symm]
      · rw [if_neg z, if_neg (fun y => z y.symm)]
    · rw [im_un' h, im_un' h, if_neg h]; rfl
  rw [im_s_c e, im_s_add, im_s_1 ht]
theorem im_ct_c {o o' : Nat → Nat} {i : Nat} (h : ∀ t, t < 24 → o t = o' t) : im_ct o i = im_ct o' i :=
  im_s_c fun t ht => by rw [h t ht]
theorem im_ct_0 {o : Nat → Nat} {i : Nat} (h : ∀ t, t < 24 → o t = 6) (hi : i < 6) : im_ct o i = 0 :=
  im_s_0 fun t ht => by rw [h t ht, if_neg (by omega)]
end
section
/-! the greedy numbers kept: least loss, first in the order; what can be freed -/
def im_bf (wo : Nat → Nat) (i j : Nat) : Bool := decide (wo j < wo i ∨ (wo i = wo j ∧ i < j))
theorem im_bf_i {wo : Nat → Nat} {i j : Nat} : im_bf wo i j = true ↔ (wo j < wo i ∨ (wo i = wo j ∧ i < j)) := by
  unfold im_bf; rw [decide_eq_true_iff]
theorem im_bf_f {wo : Nat → Nat} {i j : Nat} : im_bf wo i j = false ↔ ¬ (wo j < wo i ∨ (wo i = wo j ∧ i < j)) := by
  unfold im_bf; rw [decide_eq_false_iff_not]
def im_pt (P : Nat → Bool) (cm ks : Nat → Nat) (l : Nat) : Nat := cm l + (if P l = true then ks l else 0)
theorem im_pt_le {P Q : Nat → Bool} {cm k k' : Nat → Nat} {l : Nat} (h : P l = true → Q l = true ∧ k l ≤ k' l) : im_pt P cm k l ≤ im_pt Q cm k' l := by
  unfold im_pt
  by_cases hP : P l = true
  · rw [if_pos hP, if_pos (h hP).1]
    have := (h hP).2
    omega
  · rw [if_neg hP]; omega
def im_GS (g : Nat → Nat → Bool) (P : Nat → Bool) (cm ma wo ks : Nat → Nat) : Prop :=
  im_H g (im_pt P cm ks) ∧ ∀ i, i < 6 → P i = true → ks i ≤ ma i ∧ (ks i < ma i → ∃ S, S < 64 ∧ S.testBit i = true ∧ im_rm g S ≤ im_dm (im_pt (fun l => P l && (im_bf wo l i || l == i)) cm ks) S)
theorem im_T2 {g : Nat → Nat → Bool} {P : Nat → Bool} {cm ma wo ks k : Nat → Nat} {i : Nat} (G : im_GS g P cm ma wo ks) (hi : i < 6) (hP : P i = true) (hm : k i ≤ ma i) (hlt : ks i < k i) (he : ∀ l, l < 6 → P l = true → im_bf wo l i = true → k l = ks l) : ¬ im_H g (im_pt P cm k) := by
  obtain ⟨S, hS, hb, ht⟩ := (G.2 i hi hP).2 (by omega)
  have hbi : im_bf wo i i = false := im_bf_f.mpr (by omega)
  refine im_inf hS hi hb ht (fun l hl _ => ?_) ?_
  · unfold im_pt
    by_cases hPl : P l = true
    · by_cases hbl : im_bf wo l i = true
      · simp only [hPl, hbl, Bool.true_or, Bool.and_true, if_true]
        rw [he l hl hPl hbl]; exact Nat.le_refl _
      · by_cases e : l = i
        · subst e
          simp only [hPl, Bool.true_and, beq_self_eq_true, Bool.or_true, if_true]
          omega
        · have e2 : (l == i) = false := by rw [beq_eq_false_iff_ne]; exact e
          rw [Bool.not_eq_true] at hbl
          simp only [hPl, hbl, e2, Bool.or_self, Bool.and_false, Bool.false_eq_true, if_false]
          omega
    · rw [Bool.not_eq_true] at hPl
      simp only [hPl, Bool.false_and, Bool.false_eq_true, if_false]
      exact Nat.le_refl _
  · unfold im_pt
    simp only [hP, hbi, Bool.true_and, beq_self_eq_true, Bool.or_true, if_true]
    omega
theorem im_thr {x k : Nat} : ∀ n, x ≤ n → im_s n (fun v => if v < x then k else 0) = x * k
  | 0, h => by
    have : x = 0 := by omega
    subst this; rw [Nat.zero_mul]; rfl
  | n + 1, h => by
    show im_s n (fun v => if v < x then k else 0) + (if n < x then k else 0) = x * k
    rcases Nat.lt_or_ge n x with z | z
    · have e : x = n + 1 := by omega
      subst e
      rw [if_pos z, im_s_c (g := fun _ => k) (fun i hi => if_pos (by omega)), im_s_k, Nat.add_mul, Nat.one_mul]
    · rw [im_thr n z, if_neg (by omega)]; rfl
theorem im_lay {g : Nat → Nat → Bool} {P : Nat → Bool} {cm ma wo ks k : Nat → Nat} (G : im_GS g P cm ma wo ks) (hm : ∀ i, i < 6 → P i = true → k i ≤ ma i) (H : im_H g (im_pt P cm k)) (v : Nat) : im_s 6 (fun j => if v < wo j then (if P j = true then k j else 0) else 0) ≤ im_s 6 (fun j => if v < wo j then (if P j = true then ks j else 0) else 0) := by
  have HQ : im_H g (im_pt (fun l => P l && decide (v < wo l)) cm ks) := by
    refine im_H_le G.1 fun j _ => ?_
    refine im_pt_le fun h => ?_
    rw [Bool.and_eq_true] at h
    exact ⟨h.1, Nat.le_refl _⟩
  obtain ⟨S, hS, hq, ht⟩ := im_un HQ (fun i => P i = true ∧ v < wo i ∧ ks i < ma i) (fun i S => S.testBit i = true) (fun i S T h => by rw [Nat.testBit_or, h]; rfl) (fun i S T h => by rw [Nat.testBit_or, h, Bool.or_true]) 6 (fun i hi hq => by
    obtain ⟨S, hS, hb, ht⟩ := (G.2 i hi hq.1).2 hq.2.2
    refine ⟨S, hS, hb, Nat.le_trans ht (im_dm_le fun l _ => ?_)⟩
    refine im_pt_le fun h => ?_
    rw [Bool.and_eq_true] at h
    have hbl := h.2
    have hw : v < wo l := by
      rw [Bool.or_eq_true] at hbl
      rcases hbl with z | z
      · rw [im_bf_i] at z; omega
      · rw [beq_iff_eq] at z; rw [z]; exact hq.2.1
    rw [Bool.and_eq_true, decide_eq_true_iff]
    exact ⟨⟨h.1, hw⟩, Nat.le_refl _⟩)
  have a := H S hS
  have e1 : im_dm (im_pt P cm k) S = im_dm cm S + im_dm (fun l => if P l = true then k l else 0) S := im_dm_add
  have e2 : im_dm (im_pt (fun l => P l && decide (v < wo l)) cm ks) S = im_dm cm S + im_dm (fun l => if (P l && decide (v < wo l)) = true then ks l else 0) S := im_dm_add
  have b : im_dm (fun j => if v < wo j then (if P j = true then k j else 0) else 0) S ≤ im_dm (fun l => if P l = true then k l else 0) S := im_dm_le fun j _ => by split <;> simp
  have c : im_dm (fun l => if (P l && decide (v < wo l)) = true then ks l else 0) S = im_dm (fun j => if v < wo j then (if P j = true then ks j else 0) else 0) S := im_dm_c fun j _ => by
    by_cases hw : v < wo j
    · simp [hw]
    · simp [hw]
  have d : im_s 6 (fun j => if S.testBit j = true then 0 else (if v < wo j then (if P j = true then k j else 0) else 0)) ≤ im_s 6 (fun j => if S.testBit j = true then 0 else (if v < wo j then (if P j = true then ks j else 0) else 0)) := by
    refine im_s_le fun j hj => ?_
    by_cases hb : S.testBit j = true
    · rw [if_pos hb, if_pos hb]; exact Nat.le_refl _
    · rw [if_neg hb, if_neg hb]
      by_cases hw : v < wo j
      · rw [if_pos hw, if_pos hw]
        by_cases hP : P j = true
        · rw [if_pos hP, if_pos hP]
          have h1 := hm j hj hP
          have h2 := (G.2 j hj hP).1
          rcases Nat.lt_or_ge (ks j) (ma j) with z | z
          · exact absurd (hq j hj ⟨hP, hw, z⟩) hb
          · omega
        · rw [if_neg hP, if_neg hP]; exact Nat.le_refl _
      · rw [if_neg hw, if_neg hw]; exact Nat.le_refl _
  rw [im_split _ S, im_split (fun j => if v < wo j then (if P j = true then ks j else 0) else 0) S]
  omega
def im_ls (P : Nat → Bool) (ma wo k : Nat → Nat) : Nat := im_s 6 (fun j => if P j = true then wo j * (ma j - k j) else 0)
theorem im_wk {P : Nat → Bool} {wo k : Nat → Nat} (hw : ∀ j, j < 6 → wo j ≤ 9) : im_s 6 (fun j => if P j = true then wo j * k j else 0) = im_s 9 (fun v => im_s 6 (fun j => if v < wo j then (if P j = true then k j else 0) else 0)) := by
  rw [im_s_sw]
  refine im_s_c fun j hj => ?_
  cases P j
  · simp only [Bool.false_eq_true, if_false]
    exact (im_s_0 fun v _ => by split <;> rfl).symm
  · simp only [if_true]
    exact (im_thr 9 (hw j hj)).symm
theorem im_T1 {g : Nat → Nat → Bool} {P : Nat → Bool} {cm ma wo ks k : Nat → Nat} (hw : ∀ j, j < 6 → wo j ≤ 9) (G : im_GS g P cm ma wo ks) (hm : ∀ i, i < 6 → P i = true → k i ≤ ma i) (H : im_H g (im_pt P cm k)) : im_ls P ma wo ks ≤ im_ls P ma wo k := by
  have a : im_s 6 (fun j => if P j = true then wo j * k j else 0) ≤ im_s 6 (fun j => if P j = true then wo j * ks j else 0) := by
    rw [im_wk hw, im_wk hw]
    exact im_s_le fun v _ => im_lay G hm H v
  have e : ∀ q : Nat → Nat, (∀ i, i < 6 → P i = true → q i ≤ ma i) → im_ls P ma wo q + im_s 6 (fun j => if P j = true then wo j * q j else 0) = im_s 6 (fun j => if P j = true then wo j * ma j else 0) := by
    intro q hq
    unfold im_ls
    rw [← im_s_add]
    refine im_s_c fun j hj => ?_
    by_cases hP : P j = true
    · simp only [hP, if_true]
      rw [← Nat.mul_add, Nat.sub_add_cancel (hq j hj hP)]
    · simp only [hP, if_false]; rfl
  have e1 := e k hm
  have e2 := e ks (fun i hi hP => (G.2 i hi hP).1)
  omega
theorem im_ls_c {P : Nat → Bool} {ma wo k k' : Nat → Nat} (h : ∀ j, j < 6 → P j = true → k j = k' j) : im_ls P ma wo k = im_ls P ma wo k' := by
  refine im_s_c fun j hj => ?_
  by_cases hP : P j = true
  · rw [if_pos hP, if_pos hP, h j hj hP]
  · rw [if_neg hP, if_neg hP]
theorem im_ls_le {P : Nat → Bool} {ma wo k : Nat → Nat} (hw : ∀ j, j < 6 → wo j ≤ 9) (hm : ∀ j, j < 6 → ma j ≤ 6) : im_ls P ma wo k ≤ 324 := by
  have : im_ls P ma wo k ≤ im_s 6 (fun _ => 54) := by
    refine im_s_le fun j hj => ?_
    split
    · have a := hw j hj
      have b := hm j hj
      have := Nat.mul_le_mul a (show ma j - k j ≤ 6 by omega)
      omega
    · omega
  rw [im_s_k] at this
  omega
/-- what can be freed: the units inside that stay, and the units got outside, make up what is wanted -/
theorem im_free {gE : Nat → Nat → Bool} {I B : Nat → Bool} {c cm : Nat → Nat} {gO gs : Nat → Nat → Bool}
    (hO : ∀ j t, gO j t = (gE j t && !I t)) (hs : ∀ j t, gs j t = (gE j t && !B t)) (hB : ∀ t, t < 24 → B t = true → I t = true)
    (HO : im_H gO c) (hc : ∀ i, i < 6 → c i ≤ cm i ∧ (c i < cm i → ∃ S, S < 64 ∧ S.testBit i = true ∧ im_rm gO S ≤ im_dm c S))
    (Hs : im_H gs cm) (ht : ∀ t, t < 24 → I t = true → B t = false → ∃ S, S < 64 ∧ im_nb gs S t = true ∧ im_rm gs S ≤ im_dm cm S) :
    im_s 24 (fun t => (I t && !B t).toNat) + im_s 6 c = im_s 6 cm := by
  have nO : ∀ S t, I t = true → im_nb gO S t = false := by
    intro S t h
    rw [← Bool.not_eq_true, im_nb_i]
    rintro ⟨j, _, _, z⟩
    rw [hO, h] at z
    simp at z
  have nE : ∀ S t, t < 24 → I t = false → im_nb gs S t = im_nb gO S t := by
    intro S t h24 h
    refine im_nb_c fun j _ => ?_
    have : B t = false := by
      rw [← Bool.not_eq_true]
      intro z
      rw [hB t h24 z] at h; cases h
    rw [hs, hO, h, this]
  have up : ∀ S, im_rm gs S ≤ im_rm gO S + im_s 24 (fun t => (I t && !B t).toNat) := by
    intro S
    unfold im_rm
    rw [← im_s_add]
    refine im_s_le fun t h24 => ?_
    cases h : I t
    · rw [nE S t h24 h]; omega
    · cases h2 : B t
      · have := Bool.toNat_le (im_nb gs S t)
        simp only [Bool.not_false, Bool.and_self, Bool.toNat_true]
        omega
      · have : im_nb gs S t = false := by
          rw [← Bool.not_eq_true, im_nb_i]
          rintro ⟨j, _, _, z⟩
          rw [hs, h2] at z
          simp at z
        rw [this]
        exact Nat.zero_le _
  have A : im_s 24 (fun t => (I t && !B t).toNat) + im_s 6 c ≤ im_s 6 cm := by
    obtain ⟨S, hS, hq, tS⟩ := im_un Hs (fun t => I t = true ∧ B t = false) (fun t S => im_nb gs S t = true) (fun i S T h => by rw [im_nb_or, h]; rfl) (fun i S T h => by rw [im_nb_or, h, Bool.or_true]) 24 (fun t h24 h => ht t h24 h.1 h.2)
    have a : im_rm gO S + im_s 24 (fun t => (I t && !B t).toNat) ≤ im_rm gs S := by
      unfold im_rm
      rw [← im_s_add]
      refine im_s_le fun t h24 => ?_
      cases h : I t
      · rw [nE S t h24 h]; simp
      · rw [nO S t h]
        cases h2 : B t
        · rw [hq t h24 ⟨h, h2⟩]; simp
        · simp
    have b := HO S hS
    have d : im_s 6 (fun j => if S.testBit j = true then 0 else c j) ≤ im_s 6 (fun j => if S.testBit j = true then 0 else cm j) := im_s_le fun j hj => by
      have := (hc j hj).1
      split <;> omega
    rw [im_split c S, im_split cm S]
    omega
  have C : im_s 6 cm ≤ im_s 24 (fun t => (I t && !B t).toNat) + im_s 6 c := by
    obtain ⟨T, hT, hq, tT⟩ := im_un HO (fun i => c i < cm i) (fun i S => S.testBit i = true) (fun i S T h => by rw [Nat.testBit_or, h]; rfl) (fun i S T h => by rw [Nat.testBit_or, h, Bool.or_true]) 6 (fun i hi h => (hc i hi).2 h)
    have a := up T
    have b := Hs T hT
    have d : im_s 6 (fun j => if T.testBit j = true then 0 else cm j) ≤ im_s 6 (fun j => if T.testBit j = true then 0 else c j) := im_s_le fun j hj => by
      by_cases h : T.testBit j = true
      · rw [if_pos h, if_pos h]; exact Nat.le_refl _
      · rw [if_neg h, if_neg h]
        rcases Nat.lt_or_ge (c j) (cm j) with z | z
        · exact absurd (hq j hj z) h
        · exact z
    rw [im_split c T, im_split cm T]
    omega
  omega
end
section
/-! the tasks in their order; numbers kept as digits; the least index with a property -/
def im_n (P : Nat → Bool) : Nat := im_s 6 (fun i => (P i).toNat)
def im_pl (P : Nat → Bool) (wo : Nat → Nat) (j : Nat) : Nat := im_s 6 (fun i => (P i && (!(i == j) && im_bf wo i j)).toNat)
theorem im_pl_lt {P : Nat → Bool} {wo : Nat → Nat} {i j : Nat} (hi : i < 6) (hP : P i = true) (h : im_bf wo i j = true) : im_pl P wo i < im_pl P wo j := by
  rw [im_bf_i] at h
  refine im_s_lt (a := i) (fun l _ => im_tn_le ?_) hi ?_
  · intro z
    rw [Bool.and_eq_true, Bool.and_eq_true, im_bf_i] at z
    rw [Bool.and_eq_true, Bool.and_eq_true, im_bf_i, Bool.not_eq_true', beq_eq_false_iff_ne]
    refine ⟨z.1, ?_, ?_⟩
    · intro e; subst e; omega
    · omega
  · have a : (P i && (!(i == i) && im_bf wo i i)) = false := by simp
    have b : (P i && (!(i == j) && im_bf wo i j)) = true := by
      rw [Bool.and_eq_true, Bool.and_eq_true, im_bf_i, Bool.not_eq_true', beq_eq_false_iff_ne]
      refine ⟨hP, ?_, h⟩
      intro e; subst e; omega
    rw [a, b]; decide
theorem im_pl_n {P : Nat → Bool} {wo : Nat → Nat} {j : Nat} (hj : j < 6) (hP : P j = true) : im_pl P wo j < im_n P := by
  refine im_s_lt (a := j) (fun l _ => im_tn_le ?_) hj ?_
  · intro z; rw [Bool.and_eq_true] at z; exact z.1
  · rw [hP]; simp
theorem im_pl_inj {P : Nat → Bool} {wo : Nat → Nat} {i j : Nat} (hi : i < 6) (hj : j < 6) (hP : P i = true) (hQ : P j = true) (h : im_pl P wo i = im_pl P wo j) : i = j := by
  rcases Classical.em (im_bf wo i j = true) with z | z
  · have := im_pl_lt hi hP z; omega
  · rcases Classical.em (im_bf wo j i = true) with y | y
    · have := im_pl_lt hj hQ y; omega
    · rw [im_bf_i] at z y; omega
/-- n terms of at most 1 that make n are all 1 -/
theorem im_all1 {f : Nat → Nat} : ∀ {n : Nat}, (∀ i, i < n → f i ≤ 1) → n ≤ im_s n f → ∀ i, i < n → f i = 1
  | 0, _, _, i, hi => by omega
  | n + 1, h, hs, i, hi => by
    have a : im_s n f ≤ im_s n (fun _ => 1) := im_s_le fun l hl => h l (by omega)
    rw [im_s_k] at a
    have b := h n (by omega)
    have e : im_s (n + 1) f = im_s n f + f n := rfl
    rcases Nat.lt_or_ge i n with z | z
    · exact im_all1 (n := n) (fun l hl => h l (by omega)) (by omega) i z
    · have : i = n := by omega
      subst this; omega
theorem im_le1 {p : Nat → Bool} {n : Nat} (h : ∀ i j, i < n → j < n → p i = true → p j = true → i = j) : im_s n (fun i => (p i).toNat) ≤ 1 := by
  rcases Classical.em (∃ a, a < n ∧ p a = true) with ⟨a, ha, z⟩ | z
  · have : im_s n (fun i => (p i).toNat) ≤ im_s n (fun i => if i = a then 1 else 0) := im_s_le fun i hi => by
      by_cases e : i = a
      · rw [if_pos e]; exact Bool.toNat_le _
      · rw [if_neg e]
        have : p i = false := by
          rw [← Bool.not_eq_true]; exact fun y => e (h i a hi ha y z)
        rw [this]; exact Nat.le_refl _
    rw [im_s_1 ha] at this
    exact this
  · rw [im_s_0 fun i hi => ?_]
    · omega
    · have : p i = false := by
        rw [← Bool.not_eq_true]; exact fun y => z ⟨i, hi, y⟩
      rw [this]; rfl
theorem im_pl_sur {P : Nat → Bool} {wo : Nat → Nat} {p : Nat} (hp : p < im_n P) : ∃ j, j < 6 ∧ P j = true ∧ im_pl P wo j = p := by
  have e : im_s (im_n P) (fun p => im_s 6 (fun j => (P j && im_pl P wo j == p).toNat)) = im_n P := by
    rw [im_s_sw]
    refine im_s_c fun j hj => ?_
    by_cases hP : P j = true
    · have : im_s (im_n P) (fun i => (P j && im_pl P wo j == i).toNat) = im_s (im_n P) (fun i => if i = im_pl P wo j then 1 else 0) := im_s_c fun i _ => by
        rw [hP, Bool.true_and]
        by_cases z : i = im_pl P wo j
        · rw [if_pos z, z]; simp
        · rw [if_neg z, show (im_pl P wo j == i) = false by rw [beq_eq_false_iff_ne]; exact fun y => z y.symm]; rfl
      rw [this, im_s_1 (im_pl_n hj hP), hP]; rfl
    · rw [Bool.not_eq_true] at hP
      rw [im_s_0 fun i _ => by rw [hP]; rfl, hP]; rfl
  have a := im_all1 (f := fun p => im_s 6 (fun j => (P j && im_pl P wo j == p).toNat)) (fun i _ => im_le1 fun a b ha hb x y => by
    rw [Bool.and_eq_true, beq_iff_eq] at x y
    exact im_pl_inj ha hb x.1 y.1 (x.2.trans y.2.symm)) (Nat.le_of_eq e.symm) p hp
  rcases Classical.em (∃ j, j < 6 ∧ P j = true ∧ im_pl P wo j = p) with z | z
  · exact z
  · have : im_s 6 (fun j => (P j && im_pl P wo j == p).toNat) = 0 := im_s_0 fun j hj => by
      have : (P j && im_pl P wo j == p) = false := by
        rw [← Bool.not_eq_true, Bool.and_eq_true, beq_iff_eq]
        exact fun y => z ⟨j, hj, y.1, y.2⟩
      rw [this]; rfl
    have b : im_s 6 (fun j => (P j && im_pl P wo j == p).toNat) = 1 := a
    omega
/-- od lists the tasks of P by their order -/
def im_od (P : Nat → Bool) (wo od : Nat → Nat) : Prop :=
  (∀ p, p < im_n P → od p < 6 ∧ P (od p) = true ∧ im_pl P wo (od p) = p) ∧ ∀ j, j < 6 → P j = true → im_pl P wo j < im_n P ∧ od (im_pl P wo j) = j
theorem im_od_ex (P : Nat → Bool) (wo : Nat → Nat) : ∃ od, im_od P wo od := by
  have h : ∀ p, ∃ j, p < im_n P → (j < 6 ∧ P j = true ∧ im_pl P wo j = p) := by
    intro p
    rcases Nat.lt_or_ge p (im_n P) with z | z
    · obtain ⟨j, h⟩ := im_pl_sur (wo := wo) z
      exact ⟨j, fun _ => h⟩
    · exact ⟨0, fun y => by omega⟩
  refine ⟨fun p => Classical.choose (h p), fun p hp => Classical.choose_spec (h p) hp, fun j hj hP => ⟨im_pl_n hj hP, ?_⟩⟩
  have := Classical.choose_spec (h (im_pl P wo j)) (im_pl_n hj hP)
  exact im_pl_inj this.1 hj this.2.1 hP this.2.2
/-- the digits of the first m places: how far the numbers kept lie below the greatest ones -/
def im_rk (ma od k : Nat → Nat) : Nat → Nat
  | 0 => 0
  | m + 1 => im_rk ma od k m * (ma (od m) + 1) + (ma (od m) - k (od m))
def im_tt (ma od : Nat → Nat) : Nat → Nat
  | 0 => 1
  | m + 1 => im_tt ma od m * (ma (od m) + 1)
theorem im_tt_le {ma od : Nat → Nat} (hm : ∀ j, j < 6 → ma j ≤ 6) : ∀ {m : Nat}, (∀ p, p < m → od p < 6) → im_tt ma od m ≤ 7 ^ m
  | 0, _ => Nat.le_refl _
  | m + 1, h => by
    have a := im_tt_le hm (m := m) (fun p hp => h p (by omega))
    have b := hm (od m) (h m (by omega))
    show im_tt ma od m * (ma (od m) + 1) ≤ 7 ^ m * 7
    exact Nat.mul_le_mul a (by omega)
theorem im_rk_lt {ma od k : Nat → Nat} : ∀ {m : Nat}, im_rk ma od k m < im_tt ma od m
  | 0 => by show 0 < 1; omega
  | m + 1 => by
    have a := im_rk_lt (ma := ma) (od := od) (k := k) (m := m)
    show im_rk ma od k m * (ma (od m) + 1) + (ma (od m) - k (od m)) < im_tt ma od m * (ma (od m) + 1)
    have b : (im_rk ma od k m + 1) * (ma (od m) + 1) ≤ im_tt ma od m * (ma (od m) + 1) := Nat.mul_le_mul_right _ a
    rw [Nat.add_mul, Nat.one_mul] at b
    omega
theorem im_rk_c {ma od k k' : Nat → Nat} : ∀ {m : Nat}, (∀ p, p < m → k (od p) = k' (od p)) → im_rk ma od k m = im_rk ma od k' m
  | 0, _ => rfl
  | m + 1, h => by
    show im_rk ma od k m * (ma (od m) + 1) + (ma (od m) - k (od m)) = im_rk ma od k' m * (ma (od m) + 1) + (ma (od m) - k' (od m))
    rw [im_rk_c (m := m) (fun p hp => h p (by omega)), h m (by omega)]
theorem im_dig {a b x y B : Nat} (hx : x < B) (hy : y < B) (h : a * B + x < b * B + y) : a < b ∨ (a = b ∧ x < y) := by
  rcases Nat.lt_or_ge a b with z | z
  · exact Or.inl z
  · right
    rcases Nat.lt_or_ge b a with w | w
    · have : (b + 1) * B ≤ a * B := Nat.mul_le_mul_right _ w
      rw [Nat.add_mul, Nat.one_mul] at this
      omega
    · have e : a = b := by omega
      subst e
      exact ⟨rfl, by omega⟩
theorem im_dige {a b x y B : Nat} (hx : x < B) (hy : y < B) (h : a * B + x = b * B + y) : a = b ∧ x = y := by
  rcases Nat.lt_trichotomy a b with z | z | z
  · have : (a + 1) * B ≤ b * B := Nat.mul_le_mul_right _ z
    rw [Nat.add_mul, Nat.one_mul] at this
    omega
  · subst z; exact ⟨rfl, by omega⟩
  · have : (b + 1) * B ≤ a * B := Nat.mul_le_mul_right _ z
    rw [Nat.add_mul, Nat.one_mul] at this
    omega
theorem im_rk_eq {ma od k k' : Nat → Nat} : ∀ {m : Nat}, (∀ p, p < m → k (od p) ≤ ma (od p) ∧ k' (od p) ≤ ma (od p)) → im_rk ma od k m = im_rk ma od k' m → ∀ p, p < m → k (od p) = k' (od p)
  | 0, _, _, p, hp => by omega
  | m + 1, h, e, p, hp => by
    have hm := h m (by omega)
    have d := im_dige (a := im_rk ma od k m) (b := im_rk ma od k' m) (B := ma (od m) + 1) (x := ma (od m) - k (od m)) (y := ma (od m) - k' (od m)) (by omega) (by omega) e
    rcases Nat.lt_or_ge p m with z | z
    · exact im_rk_eq (m := m) (fun q hq => h q (by omega)) d.1 p z
    · have : p = m := by omega
      subst this; omega
theorem im_rk_less {ma od k k' : Nat → Nat} : ∀ {m : Nat}, (∀ p, p < m → k (od p) ≤ ma (od p) ∧ k' (od p) ≤ ma (od p)) → im_rk ma od k m < im_rk ma od k' m → ∃ p, p < m ∧ (∀ q, q < p → k (od q) = k' (od q)) ∧ k' (od p) < k (od p)
  | 0, _, e => by
    have : (0 : Nat) < 0 := e
    omega
  | m + 1, h, e => by
    have hm := h m (by omega)
    rcases im_dig (a := im_rk ma od k m) (b := im_rk ma od k' m) (B := ma (od m) + 1) (x := ma (od m) - k (od m)) (y := ma (od m) - k' (od m)) (by omega) (by omega) e with d | d
    · obtain ⟨p, hp, a, b⟩ := im_rk_less (m := m) (fun q hq => h q (by omega)) d
      exact ⟨p, by omega, a, b⟩
    · exact ⟨m, by omega, im_rk_eq (m := m) (fun q hq => h q (by omega)) d.1, by omega⟩
/-- before the greedy numbers nothing fits -/
theorem im_T3 {g : Nat → Nat → Bool} {P : Nat → Bool} {cm ma wo od ks k : Nat → Nat} (O : im_od P wo od) (G : im_GS g P cm ma wo ks) (hm : ∀ i, i < 6 → P i = true → k i ≤ ma i) (h : im_rk ma od k (im_n P) < im_rk ma od ks (im_n P)) : ¬ im_H g (im_pt P cm k) := by
  obtain ⟨p, hp, he, hl⟩ := im_rk_less (fun q hq => ⟨hm _ (O.1 q hq).1 (O.1 q hq).2.1, (G.2 _ (O.1 q hq).1 (O.1 q hq).2.1).1⟩) h
  have op := O.1 p hp
  refine im_T2 G op.1 op.2.1 (hm _ op.1 op.2.1) hl fun l hl hP hb => ?_
  have a := im_pl_lt hl hP hb
  have b := O.2 l hl hP
  have := he (im_pl P wo l) (by omega)
  rw [b.2] at this
  exact this
theorem im_T4 {P : Nat → Bool} {ma wo od ks k : Nat → Nat} (O : im_od P wo od) (hk : ∀ i, i < 6 → P i = true → ks i ≤ ma i) (hm : ∀ i, i < 6 → P i = true → k i ≤ ma i) (h : im_rk ma od k (im_n P) = im_rk ma od ks (im_n P)) : ∀ j, j < 6 → P j = true → k j = ks j := by
  intro j hj hP
  have b := O.2 j hj hP
  have := im_rk_eq (fun q hq => ⟨hm _ (O.1 q hq).1 (O.1 q hq).2.1, hk _ (O.1 q hq).1 (O.1 q hq).2.1⟩) h _ b.1
  rw [b.2] at this
  exact this
/-- the least index below 6 with a property; 6 if there is none -/
def im_pk (C : Nat → Prop) (r : Nat) : Prop := (r < 6 ∧ C r ∧ ∀ i, i < r → ¬ C i) ∨ (r = 6 ∧ ∀ i, i < 6 → ¬ C i)
theorem im_pk_u {C : Nat → Prop} {r s : Nat} (h : im_pk C r) (h2 : im_pk C s) : r = s := by
  rcases h with ⟨a, b, c⟩ | ⟨a, b⟩ <;> rcases h2 with ⟨a', b', c'⟩ | ⟨a', b'⟩
  · rcases Nat.lt_trichotomy r s with z | z | z
    · exact absurd b (c' r z)
    · exact z
    · exact absurd b' (c s z)
  · exact absurd b (b' r a)
  · exact absurd b' (b s a')
  · omega
noncomputable def im_pick (C : Nat → Prop) : Nat := Classical.epsilon (im_pk C)
theorem im_pick_e {C : Nat → Prop} {r : Nat} (h : im_pk C r) : im_pick C = r := im_pk_u (Classical.epsilon_spec ⟨r, h⟩) h
end
section
/-! ints as numbers: bits, bytes, the owner's code; the graph of tasks and units -/
theorem zi_bt {n j : Nat} (hn : n < 2 ^ 31) (hj : j < 32) : ((nI n >>> (nI j &&& 31)) &&& 1) = nI (n.testBit j).toNat := by
  rw [pk_shrN hn (nI j &&& 31) j (s_l j hj), pk_andN (Nat.lt_of_le_of_lt (Nat.div_le_self _ _) (by omega)) 1 (by decide), Nat.testBit_eq_decide_div_mod_eq]
  generalize n / 2 ^ j = z
  have : z % 2 ^ 1 = (decide (z % 2 = 1)).toNat := by
    rcases (show z % 2 = 0 ∨ z % 2 = 1 by omega) with h | h <;> simp [h]
  exact congrArg nI this
theorem zi_b0 {n j : Nat} (hn : n < 2 ^ 31) (hj : j < 32) : ((nI n >>> (nI j &&& 31)) &&& 1) = 0 ↔ n.testBit j = false := by
  rw [zi_bt hn hj]
  cases n.testBit j
  · exact ⟨fun _ => rfl, fun _ => rfl⟩
  · constructor
    · intro h; exact absurd h (by decide)
    · intro h; cases h
theorem zi_b1 {n j : Nat} (hn : n < 2 ^ 31) (hj : j < 32) : ((nI n >>> (nI j &&& 31)) &&& 1) = 1 ↔ n.testBit j = true := by
  rw [zi_bt hn hj]
  cases n.testBit j
  · constructor
    · intro h; exact absurd h (by decide)
    · intro h; cases h
  · exact ⟨fun _ => rfl, fun _ => rfl⟩
theorem zi_or (a b : Nat) : nI a ||| nI b = nI (a ||| b) := by
  apply Int32.toBitVec_inj.1
  show BitVec.ofNat 32 a ||| BitVec.ofNat 32 b = BitVec.ofNat 32 (a ||| b)
  apply BitVec.eq_of_getLsbD_eq
  intro i hi
  simp [hi]
theorem zi_sh {j : Nat} (hj : j < 31) : (1 : Int32) <<< (nI j &&& 31) = nI (2 ^ j) := by
  have h : 1 * 2 ^ j < 2 ^ 32 := by
    rw [Nat.one_mul]; exact Nat.pow_lt_pow_right (by decide) (by omega)
  have := pk_shlN (n := 1) (nI j &&& 31) j (s_l j (by omega)) h
  rw [Nat.one_mul] at this
  exact this
theorem zi_not (x y : Int32) : x &&& (y ^^^ (-1)) = x ^^^ (x &&& y) := by
  apply b_ext
  intro i hi
  rw [b_and, b_xor, b_xor, b_and, b_m1 i hi]
  cases bt x i <;> cases bt y i <;> rfl
def zi_d (a b : Nat) : Nat := a ^^^ (a &&& b)
theorem zi_clr (a b : Nat) : nI a &&& (nI b ^^^ (-1)) = nI (zi_d a b) := by
  rw [zi_not, nx_and, nx_xor]; rfl
theorem zi_dt (a b i : Nat) : (zi_d a b).testBit i = (a.testBit i && !b.testBit i) := by
  unfold zi_d
  rw [Nat.testBit_xor, Nat.testBit_and]
  cases a.testBit i <;> cases b.testBit i <;> rfl
theorem zi_dlt {a b n : Nat} (h : a < 2 ^ n) : zi_d a b < 2 ^ n := Nat.xor_lt_two_pow h (Nat.lt_of_le_of_lt Nat.and_le_left h)
theorem zi_t2 (j i : Nat) : (2 ^ j).testBit i = decide (j = i) := Nat.testBit_two_pow
theorem zi_nb : ∀ k, k < 128 → vp_nar .byte (nI k).toInt8.toInt32 = nI k := by
  intro k hk
  rw [vp_nar_byte]
  exact (by decide +kernel : ∀ k, k < 128 → (nI k).toInt8.toInt32.toInt8.toInt32 = nI k) k hk
theorem zi_nm : vp_nar .byte (-1) = -1 := by rw [vp_nar_byte]; decide
/-- a task, or -1 for nobody (6) -/
def zi_o (x : Nat) : Int32 := if x = 6 then -1 else nI x
theorem zi_o6 : zi_o 6 = -1 := rfl
theorem zi_ol {x : Nat} (h : x < 6) : zi_o x = nI x := if_neg (by omega)
theorem zi_ne (x : Nat) (h : x < 2 ^ 31) : ¬ nI x = -1 := by
  intro e
  have := congrArg Int32.toInt e
  rw [nI_toInt h, show (-1 : Int32).toInt = -1 by decide] at this
  omega
theorem zi_nbo {x : Nat} (h : x ≤ 6) : vp_nar .byte (zi_o x).toInt8.toInt32 = zi_o x := by
  rw [vp_nar_byte]
  exact (by decide +kernel : ∀ k, k < 7 → (zi_o k).toInt8.toInt32.toInt8.toInt32 = zi_o k) x (by omega)
def im_g (pm : Nat) (fr un : Nat → Nat) (s j t : Nat) : Bool := pm.testBit j && (decide (fr j ≤ t) && (decide (t < un j) && !s.testBit t))
theorem im_g_i {pm s j t : Nat} {fr un : Nat → Nat} : im_g pm fr un s j t = true ↔ pm.testBit j = true ∧ fr j ≤ t ∧ t < un j ∧ s.testBit t = false := by
  unfold im_g
  simp only [Bool.and_eq_true, decide_eq_true_iff, Bool.not_eq_true']
theorem im_g_f {pm s j t : Nat} {fr un : Nat → Nat} (hP : pm.testBit j = true) : im_g pm fr un s j t = false ↔ (t < fr j ∨ un j ≤ t ∨ s.testBit t = true) := by
  rw [← Bool.not_eq_true, im_g_i]
  cases s.testBit t
  · simp only [hP, Bool.false_eq_true, or_false, and_true, true_and]; omega
  · simp
def im_P (pm : Nat) : Nat → Bool := fun j => pm.testBit j
def im_cm (pm : Nat) (mu : Nat → Nat) : Nat → Nat := fun j => if pm.testBit j = true then mu j else 0
/-- what the five arrays of a task hold -/
def xa_ok (fr un mu ma wo : Nat → Nat) (afr aun amu amy awo : Nat → Int32) : Prop :=
  ∀ j, j < 6 → (afr j = nI (fr j) ∧ fr j ≤ 24) ∧ (aun j = nI (un j) ∧ un j ≤ 24) ∧ (amu j = nI (mu j) ∧ mu j ≤ 6) ∧ (amy j = nI (ma j) ∧ ma j ≤ 6) ∧ (awo j = nI (wo j) ∧ wo j ≤ 9)
theorem zi_cl {n : Nat} (h : n < 2 ^ 31 := by omega) : (nI n).toNatClampNeg = n := nI_clamp h
def zi_OW (ow : Nat → Int32) (o : Nat → Nat) : Prop := ∀ t, t < 24 → ow t = zi_o (o t)
theorem zi_OWu {ow : Nat → Int32} {o : Nat → Nat} {t j : Nat} (h : zi_OW ow o) (hj : j < 6) : zi_OW (upd ow t (nI j)) (im_u o t j) := by
  intro s hs
  by_cases e : s = t
  · subst e; rw [pk_us, im_us, zi_ol hj]
  · rw [pk_un e, im_un' e, h s hs]
end
section
/-! X: has, begin, inWindow -/
section
variable {vpr vbl vsh vrc vle vkn vll : Int32} {afr aun amu amy awo aow aln agu awb aku afp atg : Nat → Int32}
theorem xw_has {post : Int32 → Prop} {j pm : Nat} (hj : j < 6) (hp : pm < 64) (h1 : pm.testBit j = true → post 1) (h0 : pm.testBit j = false → post 0) : wpX_has post (nI pm, vbl, vsh, vrc, vle, vkn, vll, afr, aun, amu, amy, awo, aow, aln, agu, awb, aku, afp, atg) (nI j) :=
  br_f (nI_pos (by omega)) (br_f (nI_ge (b := 6) hj (by decide)) (br_c (fun z => h0 ((zi_b0 (by omega) (by omega)).mp z)) (fun z => h1 (by
    rw [zi_b0 (by omega) (by omega)] at z
    cases h : pm.testBit j
    · exact absurd h z
    · rfl))))
theorem xw_has0 {post : Int32 → Prop} {u : SX} {x : Int32} (hx : x < 0 ∨ nI 6 ≤ x) (h0 : post 0) : wpX_has post u x := by
  by_cases h : x < 0
  · exact br_t h h0
  · exact br_f h (br_t (hx.resolve_left h) h0)
theorem xw_begin_l {post : SX → Prop} : ∀ d i (ow : Nat → Int32), i + d = 24 → (∀ t, t < i → ow t = -1) → (∀ ow' : Nat → Int32, (∀ t, t < 24 → ow' t = -1) → post (vpr, vbl, vsh, vrc, vle, vkn, vll, afr, aun, amu, amy, awo, ow', aln, agu, awb, aku, afp, atg)) → wX_begin_7 post vpr vbl vsh vrc vle vkn vll (d + 1) (nI i) afr aun amu amy awo ow aln agu awb aku afp atg := by
  intro d
  induction d with
  | zero =>
    intro i ow hi hw K
    have e : i = 24 := by omega
    subst e
    exact br_t (nI_le (a := 24) (b := 24) (by omega) (by decide)) (K ow hw)
  | succ d ih =>
    intro i ow hi hw K
    refine br_f (nI_ge (b := 24) (by omega) (by decide)) (And.intro (vp_in_nI (by omega) (by omega)) (nm_e (nm_r (nI_1 i) ?_)))
    refine ih (i + 1) _ (by omega) (fun t ht => ?_) K
    rw [zi_cl, zi_nm]
    by_cases e : t = i
    · subst e; exact pk_us
    · rw [pk_un e]; exact hw t (by omega)
theorem xw_begin {post : SX → Prop} {s : Int32} (K : ∀ ow' : Nat → Int32, (∀ t, t < 24 → ow' t = -1) → post (vpr, vbl, s, vrc, vle, vkn, vll, afr, aun, amu, amy, awo, ow', aln, agu, awb, aku, afp, atg)) : wpX_begin post (vpr, vbl, vsh, vrc, vle, vkn, vll, afr, aun, amu, amy, awo, aow, aln, agu, awb, aku, afp, atg) s :=
  ⟨25, xw_begin_l 24 0 aow (by omega) (fun t ht => by omega) K⟩
theorem xw_inw {post : Int32 → Prop} {fr un mu ma wo : Nat → Nat} {j t pm s : Nat} (ok : xa_ok fr un mu ma wo afr aun amu amy awo) (hj : j < 6) (ht : t < 24) (hs : s < 2 ^ 24) (hP : pm.testBit j = true)
    (h1 : im_g pm fr un s j t = true → post 1) (h0 : im_g pm fr un s j t = false → post 0) : wpX_inWindow post (vpr, vbl, nI s, vrc, vle, vkn, vll, afr, aun, amu, amy, awo, aow, aln, agu, awb, aku, afp, atg) (nI j) (nI t) := by
  have o := ok j hj
  have c : (nI j).toNatClampNeg = j := zi_cl
  have hi : vp_in (nI j) 6 := vp_in_nI hj (by omega)
  refine And.intro hi ?_
  rw [c, o.1.1, o.2.1.1]
  refine br_c (fun z => h0 ?_) (fun z => And.intro hi (br_c (fun y => h0 ?_) (fun y => br_c (fun w => h1 ?_) (fun w => h0 ?_))))
  · rw [nI_ltI (by omega) (by omega)] at z
    exact (im_g_f hP).mpr (Or.inl z)
  · rw [nI_leI (by omega) (by omega)] at y
    exact (im_g_f hP).mpr (Or.inr (Or.inl y))
  · rw [nI_ltI (by omega) (by omega)] at z
    rw [nI_leI (by omega) (by omega)] at y
    rw [zi_b0 (by omega) (by omega)] at w
    exact im_g_i.mpr ⟨hP, by omega, by omega, w⟩
  · rw [zi_b0 (by omega) (by omega), Bool.not_eq_false] at w
    exact (im_g_f hP).mpr (Or.inr (Or.inr w))
end
end
section
/-! the search for a chain, as numbers; the shift along it -/
def bf_I (g : Nat → Nat → Bool) (o : Nat → Nat) (rt R L : Nat) (ln : Nat → Nat) (al ag aw : Nat → Int32) : Prop :=
  R < 64 ∧ im_s 6 (fun i => (R.testBit i).toNat) = L ∧ (0 < L ∧ ln 0 = rt ∧ aw rt = -1) ∧
  (∀ q, q < L → ln q < 6 ∧ R.testBit (ln q) = true ∧ al q = nI (ln q)) ∧
  (∀ q q', q < L → q' < L → ln q = ln q' → q = q') ∧
  (∀ i, i < 6 → R.testBit i = true → ∃ q, q < L ∧ ln q = i) ∧
  (∀ q, q < L → 0 < q → ∃ q' t, q' < q ∧ t < 24 ∧ aw (ln q) = nI (ln q') ∧ ag (ln q) = nI t ∧ o t = ln q ∧ g (ln q') t = true)
theorem bf_L {g : Nat → Nat → Bool} {o : Nat → Nat} {rt R L : Nat} {ln : Nat → Nat} {al ag aw : Nat → Int32} (h : bf_I g o rt R L ln al ag aw) : L ≤ 6 := by
  have : im_s 6 (fun i => (R.testBit i).toNat) ≤ im_s 6 (fun _ => 1) := im_s_le fun i _ => Bool.toNat_le _
  rw [im_s_k, h.2.1] at this
  omega
theorem bf_0 {g : Nat → Nat → Bool} {o : Nat → Nat} {j : Nat} {al ag aw : Nat → Int32} (hj : j < 6) : bf_I g o j (2 ^ j) 1 (fun _ => j) (upd al 0 (nI j)) ag (upd aw j (-1)) := by
  refine ⟨?_, ?_, ⟨by omega, rfl, pk_us⟩, ?_, ?_, ?_, ?_⟩
  · exact Nat.pow_lt_pow_right (a := 2) (m := j) (n := 6) (by decide) hj
  · rw [im_s_c (g := fun i => if i = j then 1 else 0), im_s_1 hj]
    intro i _
    rw [zi_t2]
    by_cases e : j = i
    · subst e; simp
    · rw [if_neg (fun z => e z.symm), decide_eq_false e]; rfl
  · intro q hq
    have e : q = 0 := by omega
    subst e
    exact ⟨hj, by rw [zi_t2]; exact decide_eq_true rfl, pk_us⟩
  · intro q q' hq hq' _; omega
  · intro i _ h
    rw [zi_t2, decide_eq_true_iff] at h
    exact ⟨0, by omega, h⟩
  · intro q hq h; omega
theorem bf_add {g : Nat → Nat → Bool} {o : Nat → Nat} {rt R L i t k : Nat} {ln : Nat → Nat} {al ag aw : Nat → Int32} (h : bf_I g o rt R L ln al ag aw) (hi : i < 6) (hR : R.testBit i = false) (ht : t < 24) (ho : o t = i) (hk : k < L) (hg : g (ln k) t = true) :
    L < 6 ∧ bf_I g o rt (R ||| 2 ^ i) (L + 1) (im_u ln L i) (upd al L (nI i)) (upd ag i (nI t)) (upd aw i (nI (ln k))) := by
  obtain ⟨h1, h2, ⟨h3, h4, h5⟩, h6, h7, h8, h9⟩ := h
  have hne : ∀ q, q < L → ln q ≠ i := by
    intro q hq e
    have := (h6 q hq).2.1
    rw [e, hR] at this; cases this
  have hcnt : im_s 6 (fun l => ((R ||| 2 ^ i).testBit l).toNat) = L + 1 := by
    rw [← h2, im_s_c (g := fun l => (R.testBit l).toNat + (if l = i then 1 else 0)), im_s_add, im_s_1 hi]
    intro l _
    rw [Nat.testBit_or, zi_t2]
    by_cases e : i = l
    · subst e; rw [hR]; simp
    · rw [if_neg (fun z => e z.symm), decide_eq_false e, Bool.or_false]; rfl
  have hlt : im_s 6 (fun l => (R.testBit l).toNat) < im_s 6 (fun _ => 1) := im_s_lt (a := i) (fun l _ => Bool.toNat_le _) hi (by rw [hR]; decide)
  rw [im_s_k, h2] at hlt
  refine ⟨by omega, im_or64 h1 (Nat.pow_lt_pow_right (a := 2) (m := i) (n := 6) (by decide) hi), hcnt, ⟨by omega, ?_, ?_⟩, ?_, ?_, ?_, ?_⟩
  · rw [im_un' (by omega)]; exact h4
  · rw [pk_un]
    · exact h5
    · rw [← h4]; exact hne 0 h3
  · intro q hq
    by_cases e : q = L
    · subst e
      rw [im_us, pk_us]
      exact ⟨hi, by rw [Nat.testBit_or, zi_t2, decide_eq_true rfl, Bool.or_true], rfl⟩
    · rw [im_un' e, pk_un e]
      have := h6 q (by omega)
      exact ⟨this.1, by rw [Nat.testBit_or, this.2.1]; rfl, this.2.2⟩
  · intro q q' hq hq' e
    by_cases a : q = L
    · by_cases b : q' = L
      · omega
      · subst a
        rw [im_us, im_un' b] at e
        exact absurd e.symm (hne q' (by omega))
    · by_cases b : q' = L
      · subst b
        rw [im_us, im_un' a] at e
        exact absurd e (hne q (by omega))
      · rw [im_un' a, im_un' b] at e
        exact h7 q q' (by omega) (by omega) e
  · intro l hl hb
    by_cases e : l = i
    · subst e; exact ⟨L, by omega, im_us⟩
    · rw [Nat.testBit_or, zi_t2, decide_eq_false (fun z => e z.symm), Bool.or_false] at hb
      obtain ⟨q, hq, z⟩ := h8 l hl hb
      exact ⟨q, by omega, by rw [im_un' (by omega)]; exact z⟩
  · intro q hq h0
    by_cases e : q = L
    · subst e
      rw [im_us]
      exact ⟨k, t, hk, ht, by rw [pk_us, im_un' (by omega)], pk_us, ho, by rw [im_un' (by omega)]; exact hg⟩
    · rw [im_un' e]
      obtain ⟨q', s, a, b, c, d, f, z⟩ := h9 q (by omega) h0
      have n := hne q (by omega)
      exact ⟨q', s, a, b, by rw [pk_un n, im_un' (by omega)]; exact c, by rw [pk_un n]; exact d, f, by rw [im_un' (by omega)]; exact z⟩
/-- the units of the first k tasks of the line all belong to tasks reached -/
def bf_D (g : Nat → Nat → Bool) (o : Nat → Nat) (R k : Nat) (ln : Nat → Nat) : Prop := ∀ q, q < k → ∀ t, t < 24 → g (ln q) t = true → o t < 6 ∧ R.testBit (o t) = true
theorem bf_D_add {g : Nat → Nat → Bool} {o : Nat → Nat} {R k L i x : Nat} {ln : Nat → Nat} (h : bf_D g o R k ln) (hk : k ≤ L) : bf_D g o (R ||| x) k (im_u ln L i) := by
  intro q hq t ht hg
  rw [im_un' (by omega)] at hg
  have := h q hq t ht hg
  exact ⟨this.1, by rw [Nat.testBit_or, this.2]; rfl⟩
theorem bf_tight {g : Nat → Nat → Bool} {o : Nat → Nat} {rt R L : Nat} {ln : Nat → Nat} {al ag aw : Nat → Int32} (h : bf_I g o rt R L ln al ag aw) (hd : bf_D g o R L ln) : R < 64 ∧ R.testBit rt = true ∧ im_rm g R ≤ im_dm (im_ct o) R := by
  obtain ⟨h1, h2, ⟨h3, h4, h5⟩, h6, h7, h8, h9⟩ := h
  refine ⟨h1, ?_, im_tight fun t ht hn => ?_⟩
  · rw [← h4]; exact (h6 0 h3).2.1
  · rw [im_nb_i] at hn
    obtain ⟨j, hj, hb, hg⟩ := hn
    obtain ⟨q, hq, e⟩ := h8 j hj hb
    subst e
    exact hd q hq t ht hg
section
variable {vpr vbl vsh vrc vle vkn vll : Int32} {afr aun amu amy awo aow aln agu awb aku afp atg : Nat → Int32}
/-- what the chain asks at place p: those before it, by ghost units -/
def bf_C (g : Nat → Nat → Bool) (o : Nat → Nat) (p : Nat) (ln : Nat → Nat) (ag aw : Nat → Int32) : Prop :=
  (∀ q, q ≤ p → ln q < 6) ∧ (∀ q q', q ≤ p → q' ≤ p → ln q = ln q' → q = q') ∧ aw (ln 0) = -1 ∧
  ∀ q, q ≤ p → 0 < q → ∃ q' t, q' < q ∧ t < 24 ∧ aw (ln q) = nI (ln q') ∧ ag (ln q) = nI t ∧ o t = ln q ∧ g (ln q') t = true
theorem xw_shift_l {post : SX → Prop} {g : Nat → Nat → Bool} {ln c : Nat → Nat}
    (K : ∀ (ow' : Nat → Int32) o', zi_OW ow' o' → im_V g o' → (∀ i, i < 6 → im_ct o' i = c i + (if i = ln 0 then 1 else 0)) → post (vpr, vbl, vsh, vrc, vle, vkn, vll, afr, aun, amu, amy, awo, ow', aln, agu, awb, aku, afp, atg)) :
    ∀ m p n x s (o : Nat → Nat) (ow : Nat → Int32), p ≤ m → p + x ≤ 5 → p + 2 ≤ n → s < 24 → zi_OW ow o → im_V g o → bf_C g o p ln agu awb → (∀ q, q ≤ p → o s ≠ ln q) → g (ln p) s = true → (∀ i, i < 6 → im_ct (im_u o s 6) i = c i) →
    wX_shift_8 post vpr vbl vsh vrc vle vkn vll n (nI (ln p)) (nI s) (nI x) afr aun amu amy awo ow aln agu awb aku afp atg := by
  intro m
  induction m with
  | zero =>
    intro p n x s o ow hp hx hn hs hO hV hC hne hg hc
    have e : p = 0 := by omega
    subst e
    obtain ⟨n, rfl⟩ : ∃ k, n = k + 2 := ⟨n - 2, by omega⟩
    have hl := hC.1 0 (by omega)
    have hi : vp_in (nI (ln 0)) 6 := vp_in_nI hl (by omega)
    have cl : (nI (ln 0)).toNatClampNeg = ln 0 := zi_cl
    have cs : (nI s).toNatClampNeg = s := zi_cl
    have fin : post (vpr, vbl, vsh, vrc, vle, vkn, vll, afr, aun, amu, amy, awo, upd ow s (nI (ln 0)), aln, agu, awb, aku, afp, atg) := by
      refine K _ (im_u o s (ln 0)) (zi_OWu hO hl) (fun t ht => ?_) (fun i hi => ?_)
      · by_cases e : t = s
        · subst e; rw [im_us]; exact Or.inr ⟨hl, hg⟩
        · rw [im_un' e]; exact hV t ht
      · rw [im_ct_u hs hi, hc i hi]
    refine br_f (nI_ge (b := 6) (by omega) (by decide)) (br_f (nI_pos (by omega)) (And.intro (vp_in_nI hs (by omega)) ?_))
    rw [zi_nb _ (by omega), cs]
    refine nm_e (And.intro hi (nm_e (And.intro hi ?_)))
    rw [cl, hC.2.2.1]
    refine nm_e (nm_r (nI_1 x) ?_)
    exact br_c (fun _ => fin) (fun _ => br_t (by decide) fin)
  | succ m ih =>
    intro p n x s o ow hp hx hn hs hO hV hC hne hg hc
    rcases Nat.eq_zero_or_pos p with z | z
    · exact ih p n x s o ow (by omega) hx hn hs hO hV hC hne hg hc
    · obtain ⟨n, rfl⟩ : ∃ k, n = k + 1 := ⟨n - 1, by omega⟩
      have hl := hC.1 p (by omega)
      have hi : vp_in (nI (ln p)) 6 := vp_in_nI hl (by omega)
      have cl : (nI (ln p)).toNatClampNeg = ln p := zi_cl
      have cs : (nI s).toNatClampNeg = s := zi_cl
      obtain ⟨q', t, a, b, cw, cg, co, cgr⟩ := hC.2.2.2 p (by omega) z
      refine br_f (nI_ge (b := 6) (by omega) (by decide)) (br_f (nI_pos (by omega)) (And.intro (vp_in_nI hs (by omega)) ?_))
      rw [zi_nb _ (by omega), cs]
      refine nm_e (And.intro hi (nm_e (And.intro hi ?_)))
      rw [cl, cw, cg]
      refine nm_e (nm_r (nI_1 x) ?_)
      have hts : t ≠ s := by
        intro e; subst e; exact hne p (by omega) co
      refine ih q' n (x + 1) t (im_u o s (ln p)) _ (by omega) (by omega) (by omega) b (zi_OWu hO hl) (fun y hy => ?_) ⟨fun q hq => hC.1 q (by omega), fun q r hq hr => hC.2.1 q r (by omega) (by omega), hC.2.2.1, fun q hq h0 => ?_⟩ (fun q hq e => ?_) cgr (fun i hi => ?_)
      · by_cases e : y = s
        · subst e; rw [im_us]; exact Or.inr ⟨hl, hg⟩
        · rw [im_un' e]; exact hV y hy
      · obtain ⟨r, y, d1, d2, d3, d4, d5, d6⟩ := hC.2.2.2 q (by omega) h0
        refine ⟨r, y, d1, d2, d3, d4, ?_, d6⟩
        rw [im_un']
        · exact d5
        · intro e; subst e; exact hne q (by omega) d5
      · rw [im_un' hts, co] at e
        have := hC.2.1 p q (by omega) (by omega) e
        omega
      · have e1 := im_ct_u (o := o) (t := s) (j := ln p) hs hi
        have e2 := im_ct_u (o := im_u o s (ln p)) (t := t) (j := ln p) b hi
        have e3 : im_ct (im_u (im_u o s (ln p)) t (ln p)) i = im_ct (im_u o s (ln p)) i := im_ct_c fun y _ => by
          by_cases e : y = t
          · subst e; rw [im_us, im_un' hts, co]
          · rw [im_un' e]
        have e4 := hc i hi
        omega
theorem xw_shift {post : SX → Prop} {g : Nat → Nat → Bool} {o ln : Nat → Nat} {p s : Nat} (hp : p ≤ 5) (hs : s < 24) (hO : zi_OW aow o) (hV : im_V g o) (hC : bf_C g o p ln agu awb) (ho : o s = 6) (hg : g (ln p) s = true)
    (K : ∀ (ow' : Nat → Int32) o', zi_OW ow' o' → im_V g o' → (∀ i, i < 6 → im_ct o' i = im_ct o i + (if i = ln 0 then 1 else 0)) → post (vpr, vbl, vsh, vrc, vle, vkn, vll, afr, aun, amu, amy, awo, ow', aln, agu, awb, aku, afp, atg)) : wpX_shift post (vpr, vbl, vsh, vrc, vle, vkn, vll, afr, aun, amu, amy, awo, aow, aln, agu, awb, aku, afp, atg) (nI (ln p)) (nI s) :=
  ⟨7, xw_shift_l K p p 7 0 s o aow (by omega) (by omega) (by omega) hs hO hV hC (fun q hq e => by
    have := hC.1 q hq
    omega) hg (fun i _ => im_ct_c fun y _ => by
      by_cases e : y = s
      · subst e; rw [im_us, ho]
      · rw [im_un' e])⟩
end
end
section
/-! X: look, give -/
section
variable {vpr vbl vsh vrc vle vkn vll : Int32} {afr aun amu amy awo aow aln agu awb aku afp atg : Nat → Int32}
theorem xw_look_l {post : Int32 → SX → Prop} {fr un mu ma wo : Nat → Nat} {pm s rt k j : Nat} {o : Nat → Nat} (ok : xa_ok fr un mu ma wo afr aun amu amy awo) (hs : s < 2 ^ 24) (hj : j < 6) (hP : pm.testBit j = true) (hO : zi_OW aow o) (hV : im_V (im_g pm fr un s) o)
    (K1 : ∀ t R L ln (al ag aw : Nat → Int32), bf_I (im_g pm fr un s) o rt R L ln al ag aw → k < L → ln k = j → t < 24 → o t = 6 → im_g pm fr un s j t = true → post (nI t) (vpr, vbl, nI s, nI R, nI L, vkn, vll, afr, aun, amu, amy, awo, aow, al, ag, aw, aku, afp, atg))
    (K0 : ∀ R L ln (al ag aw : Nat → Int32), bf_I (im_g pm fr un s) o rt R L ln al ag aw → k < L → bf_D (im_g pm fr un s) o R (k + 1) ln → post (-1) (vpr, vbl, nI s, nI R, nI L, vkn, vll, afr, aun, amu, amy, awo, aow, al, ag, aw, aku, afp, atg)) :
    ∀ d t R L ln (al ag aw : Nat → Int32), un j ≤ t + d → fr j ≤ t → t ≤ 24 → bf_I (im_g pm fr un s) o rt R L ln al ag aw → k < L → ln k = j → bf_D (im_g pm fr un s) o R k ln → (∀ y, y < t → im_g pm fr un s j y = true → o y < 6 ∧ R.testBit (o y) = true) →
    wX_look_7 post (nI j) vpr vbl (nI s) vkn vll (d + 1) (nI t) (nI R) (nI L) afr aun amu amy awo aow al ag aw aku afp atg := by
  have oj := ok j hj
  have cj : (nI j).toNatClampNeg = j := zi_cl
  have hij : vp_in (nI j) 6 := vp_in_nI hj (by omega)
  have fin : ∀ t R L ln (al ag aw : Nat → Int32), un j ≤ t → bf_I (im_g pm fr un s) o rt R L ln al ag aw → k < L → ln k = j → bf_D (im_g pm fr un s) o R k ln → (∀ y, y < t → im_g pm fr un s j y = true → o y < 6 ∧ R.testBit (o y) = true) → post (-1) (vpr, vbl, nI s, nI R, nI L, vkn, vll, afr, aun, amu, amy, awo, aow, al, ag, aw, aku, afp, atg) := by
    intro t R L ln al ag aw hu hI hk hl hD hY
    refine K0 R L ln al ag aw hI hk fun q hq y hy hg => ?_
    rcases Nat.lt_or_ge q k with z | z
    · exact hD q z y hy hg
    · have e : q = k := by omega
      subst e
      rw [hl] at hg
      exact hY y (by have := (im_g_i.mp hg).2.2.1; omega) hg
  intro d
  induction d with
  | zero =>
    intro t R L ln al ag aw hd hf ht hI hk hl hD hY
    refine And.intro hij ?_
    rw [cj, oj.2.1.1]
    exact br_t (nI_le (by omega) (by omega)) (fin t R L ln al ag aw (by omega) hI hk hl hD hY)
  | succ d ih =>
    intro t R L ln al ag aw hd hf ht hI hk hl hD hY
    refine And.intro hij ?_
    rw [cj, oj.2.1.1]
    rcases Nat.lt_or_ge t (un j) with hu | hu
    · refine br_f (nI_ge hu (by omega)) ?_
      refine xw_inw ok hj (by omega) hs hP (fun hg => ?_) (fun hg => ?_)
      · refine br_f (by decide) (And.intro (vp_in_nI (by omega) (by omega)) ?_)
        have ct : (nI t).toNatClampNeg = t := zi_cl
        rw [ct, hO t (by omega)]
        rcases hV t (by omega) with h6 | ⟨h6, hgo⟩
        · rw [h6, zi_o6]
          exact nm_e (br_t rfl (K1 t R L ln al ag aw hI hk hl (by omega) h6 hg))
        · rw [zi_ol h6]
          have hL := bf_L hI
          have hR := hI.1
          refine nm_e (br_f (zi_ne _ (by omega)) (br_c (fun z => ?_) (fun z => ?_)))
          · rw [zi_b0 (by omega) (by omega)] at z
            obtain ⟨hL6, hA⟩ := bf_add (k := k) hI h6 z (show t < 24 by omega) rfl hk (by rw [hl]; exact hg)
            have hio : vp_in (nI (o t)) 6 := vp_in_nI h6 (by omega)
            have cio : (nI (o t)).toNatClampNeg = o t := zi_cl
            have cL : (nI L).toNatClampNeg = L := zi_cl
            rw [zi_sh (by omega), zi_or, zi_nb t (by omega), zi_nb j (by omega), zi_nb (o t) (by omega), cio, cL]
            refine nm_e (And.intro hio (nm_e (And.intro hio (nm_e (And.intro (vp_in_nI (by omega) (by omega)) (nm_e (nm_r (nI_1 L) (nm_r (nI_1 t) ?_))))))))
            rw [hl] at hA
            refine ih (t + 1) _ (L + 1) (im_u ln L (o t)) _ _ _ (by omega) (by omega) (by omega) hA (by omega) (by rw [im_un' (by omega)]; exact hl) (bf_D_add hD (by omega)) (fun y hy hgy => ?_)
            by_cases e : y = t
            · subst e; exact ⟨h6, by rw [Nat.testBit_or, zi_t2, decide_eq_true rfl, Bool.or_true]⟩
            · have := hY y (by omega) hgy
              exact ⟨this.1, by rw [Nat.testBit_or, this.2]; rfl⟩
          · rw [zi_b0 (by omega) (by omega), Bool.not_eq_false] at z
            refine nm_r (nI_1 t) (ih (t + 1) R L ln al ag aw (by omega) (by omega) (by omega) hI hk hl hD (fun y hy hgy => ?_))
            by_cases e : y = t
            · subst e; exact ⟨h6, z⟩
            · exact hY y (by omega) hgy
      · refine br_t rfl (nm_r (nI_1 t) (ih (t + 1) R L ln al ag aw (by omega) (by omega) (by omega) hI hk hl hD (fun y hy hgy => ?_)))
        by_cases e : y = t
        · subst e; rw [hg] at hgy; cases hgy
        · exact hY y (by omega) hgy
    · exact br_t (nI_le hu (by omega)) (fin t R L ln al ag aw hu hI hk hl hD hY)
theorem xw_look {post : Int32 → SX → Prop} {fr un mu ma wo : Nat → Nat} {pm s rt k j R L : Nat} {o ln : Nat → Nat} (ok : xa_ok fr un mu ma wo afr aun amu amy awo) (hs : s < 2 ^ 24) (hj : j < 6) (hP : pm.testBit j = true) (hO : zi_OW aow o) (hV : im_V (im_g pm fr un s) o)
    (hI : bf_I (im_g pm fr un s) o rt R L ln aln agu awb) (hk : k < L) (hl : ln k = j) (hD : bf_D (im_g pm fr un s) o R k ln)
    (K1 : ∀ t R L ln (al ag aw : Nat → Int32), bf_I (im_g pm fr un s) o rt R L ln al ag aw → k < L → ln k = j → t < 24 → o t = 6 → im_g pm fr un s j t = true → post (nI t) (vpr, vbl, nI s, nI R, nI L, vkn, vll, afr, aun, amu, amy, awo, aow, al, ag, aw, aku, afp, atg))
    (K0 : ∀ R L ln (al ag aw : Nat → Int32), bf_I (im_g pm fr un s) o rt R L ln al ag aw → k < L → bf_D (im_g pm fr un s) o R (k + 1) ln → post (-1) (vpr, vbl, nI s, nI R, nI L, vkn, vll, afr, aun, amu, amy, awo, aow, al, ag, aw, aku, afp, atg)) :
    wpX_look post (vpr, vbl, nI s, nI R, nI L, vkn, vll, afr, aun, amu, amy, awo, aow, aln, agu, awb, aku, afp, atg) (nI j) := by
  have oj := ok j hj
  refine And.intro (vp_in_nI hj (by omega)) ?_
  have cj : (nI j).toNatClampNeg = j := zi_cl
  rw [cj, oj.1.1]
  refine nm_e ⟨25, xw_look_l ok hs hj hP hO hV K1 K0 24 (fr j) R L ln aln agu awb (by omega) (Nat.le_refl _) (by omega) hI hk hl hD (fun y hy hg => ?_)⟩
  have := (im_g_i.mp hg).2.1
  omega
theorem xw_give_l {post : Int32 → SX → Prop} {fr un mu ma wo : Nat → Nat} {pm s rt : Nat} {o : Nat → Nat} (ok : xa_ok fr un mu ma wo afr aun amu amy awo) (hs : s < 2 ^ 24) (hP : pm.testBit rt = true) (hO : zi_OW aow o) (hV : im_V (im_g pm fr un s) o)
    (K1 : ∀ rc le (ow al ag aw : Nat → Int32) o', zi_OW ow o' → im_V (im_g pm fr un s) o' → (∀ i, i < 6 → im_ct o' i = im_ct o i + (if i = rt then 1 else 0)) → post 1 (vpr, vbl, nI s, rc, le, vkn, vll, afr, aun, amu, amy, awo, ow, al, ag, aw, aku, afp, atg))
    (K0 : ∀ rc le (al ag aw : Nat → Int32) S, S < 64 → S.testBit rt = true → im_rm (im_g pm fr un s) S ≤ im_dm (im_ct o) S → post 0 (vpr, vbl, nI s, rc, le, vkn, vll, afr, aun, amu, amy, awo, aow, al, ag, aw, aku, afp, atg)) :
    ∀ d k R L ln (al ag aw : Nat → Int32), k + d = 6 → bf_I (im_g pm fr un s) o rt R L ln al ag aw → bf_D (im_g pm fr un s) o R k ln → k ≤ L →
    wX_give_36 post (d + 1) (nI k) vpr vbl (nI s) (nI R) (nI L) vkn vll afr aun amu amy awo aow al ag aw aku afp atg := by
  have fin : ∀ k R L ln (al ag aw : Nat → Int32), bf_I (im_g pm fr un s) o rt R L ln al ag aw → bf_D (im_g pm fr un s) o R k ln → L ≤ k → post 0 (vpr, vbl, nI s, nI R, nI L, vkn, vll, afr, aun, amu, amy, awo, aow, al, ag, aw, aku, afp, atg) := by
    intro k R L ln al ag aw hI hD hk
    have T := bf_tight hI (fun q hq => hD q (by omega))
    exact K0 _ _ _ _ _ R T.1 T.2.1 T.2.2
  intro d
  induction d with
  | zero =>
    intro k R L ln al ag aw hd hI hD hk
    have hL := bf_L hI
    exact br_t (nI_le (by omega) (by omega)) (fin k R L ln al ag aw hI hD (by omega))
  | succ d ih =>
    intro k R L ln al ag aw hd hI hD hk
    have hL := bf_L hI
    rcases Nat.lt_or_ge k L with hkL | hkL
    · have h6 := hI.2.2.2.1 k hkL
      have ck : (nI k).toNatClampNeg = k := zi_cl
      have hPk : pm.testBit (ln k) = true := by
        rcases Nat.eq_zero_or_pos k with z | z
        · subst z; rw [hI.2.2.1.2.1]; exact hP
        · obtain ⟨q', t, a, b, c1, c2, c3, c4⟩ := hI.2.2.2.2.2.2 k hkL z
          rcases hV t b with y | y
          · omega
          · rw [c3] at y; exact (im_g_i.mp y.2).1
      refine br_f (nI_ge hkL (by omega)) (br_f (nI_ge (b := 6) (by omega) (by decide)) (And.intro (vp_in_nI (by omega) (by omega)) ?_))
      rw [ck, h6.2.2]
      refine xw_look ok hs h6.1 hPk hO hV hI hkL rfl hD (fun t R' L' ln' al' ag' aw' hI' hk' hl' ht ho hg => ?_) (fun R' L' ln' al' ag' aw' hI' hk' hD' => ?_)
      · have hL' := bf_L hI'
        refine br_f (nI_pos (by omega)) (And.intro (vp_in_nI (by omega) (by omega)) ?_)
        rw [(hI'.2.2.2.1 k hk').2.2]
        have hI2 := hI'
        obtain ⟨i1, i2, ⟨i3, i4, i5⟩, i6, i7, i8, i9⟩ := hI2
        refine xw_shift (p := k) (by omega) ht hO hV ⟨fun q hq => (i6 q (by omega)).1, fun q q' hq hq' => i7 q q' (by omega) (by omega), by rw [i4]; exact i5, fun q hq => i9 q (by omega)⟩ ho (by rw [hl']; exact hg) (fun ow' o' hO' hV' hc => ?_)
        rw [i4] at hc
        exact K1 _ _ _ _ _ _ o' hO' hV' hc
      · exact br_t (by decide) (nm_r (nI_1 k) (ih (k + 1) R' L' ln' al' ag' aw' (by omega) hI' hD' (by omega)))
    · exact br_t (nI_le hkL (by omega)) (fin k R L ln al ag aw hI hD hkL)
theorem xw_give {post : Int32 → SX → Prop} {fr un mu ma wo : Nat → Nat} {pm s j : Nat} {o : Nat → Nat} (ok : xa_ok fr un mu ma wo afr aun amu amy awo) (hs : s < 2 ^ 24) (hj : j < 6) (hP : pm.testBit j = true) (hO : zi_OW aow o) (hV : im_V (im_g pm fr un s) o)
    (K1 : ∀ rc le (ow al ag aw : Nat → Int32) o', zi_OW ow o' → im_V (im_g pm fr un s) o' → (∀ i, i < 6 → im_ct o' i = im_ct o i + (if i = j then 1 else 0)) → post 1 (vpr, vbl, nI s, rc, le, vkn, vll, afr, aun, amu, amy, awo, ow, al, ag, aw, aku, afp, atg))
    (K0 : ∀ rc le (al ag aw : Nat → Int32) S, S < 64 → S.testBit j = true → im_rm (im_g pm fr un s) S ≤ im_dm (im_ct o) S → post 0 (vpr, vbl, nI s, rc, le, vkn, vll, afr, aun, amu, amy, awo, aow, al, ag, aw, aku, afp, atg)) :
    wpX_give post (vpr, vbl, nI s, vrc, vle, vkn, vll, afr, aun, amu, amy, awo, aow, aln, agu, awb, aku, afp, atg) (nI j) := by
  have cj : (nI j).toNatClampNeg = j := zi_cl
  have hij : vp_in (nI j) 6 := vp_in_nI hj (by omega)
  unfold wpX_give
  rw [zi_sh (by omega), zi_nb j (by omega), zi_nm, cj]
  refine nm_e (nm_e (And.intro hij (nm_e (And.intro hij (nm_e ⟨7, ?_⟩)))))
  exact xw_give_l ok hs hP hO hV K1 K0 6 0 (2 ^ j) 1 (fun _ => j) _ _ _ (by omega) (bf_0 hj) (fun q hq => by omega) (by omega)
end
end
section
/-! X: giveMany, giveMusts, possible, restFits -/
section
variable {vpr vbl vsh vrc vle vkn vll : Int32} {afr aun amu amy awo aow aln agu awb aku afp atg : Nat → Int32}
variable {fr un mu ma wo : Nat → Nat} {pm s : Nat}
theorem xw_many_l {post : Int32 → SX → Prop} {j n : Nat} (ok : xa_ok fr un mu ma wo afr aun amu amy awo) (hs : s < 2 ^ 24) (hj : j < 6) (hn : n < 128) :
    ∀ d k (o : Nat → Nat) rc le (ow al ag aw : Nat → Int32), k + d = n → (0 < d → pm.testBit j = true) → zi_OW ow o → im_V (im_g pm fr un s) o →
    (∀ rc le (ow al ag aw : Nat → Int32) o', zi_OW ow o' → im_V (im_g pm fr un s) o' → (∀ i, i < 6 → im_ct o' i = im_ct o i + (if i = j then d else 0)) → post 1 (vpr, vbl, nI s, rc, le, vkn, vll, afr, aun, amu, amy, awo, ow, al, ag, aw, aku, afp, atg)) →
    (∀ rc le (ow al ag aw : Nat → Int32), ¬ im_H (im_g pm fr un s) (fun i => im_ct o i + (if i = j then d else 0)) → post 0 (vpr, vbl, nI s, rc, le, vkn, vll, afr, aun, amu, amy, awo, ow, al, ag, aw, aku, afp, atg)) →
    wX_giveMany_2 post (nI j) (nI n) (d + 1) (nI k) vpr vbl (nI s) rc le vkn vll afr aun amu amy awo ow al ag aw aku afp atg := by
  intro d
  induction d with
  | zero =>
    intro k o rc le ow al ag aw hk hP hO hV K1 K0
    exact br_t (nI_le (by omega) (by omega)) (K1 _ _ _ _ _ _ o hO hV (fun i hi => by split <;> rfl))
  | succ d ih =>
    intro k o rc le ow al ag aw hk hP hO hV K1 K0
    refine br_f (nI_ge (by omega) (by omega)) ?_
    refine xw_give ok hs hj (hP (by omega)) hO hV (fun rc le ow al ag aw o' hO' hV' hc => ?_) (fun rc le al ag aw S hS hb ht => ?_)
    · refine br_f (by decide) (nm_r (nI_1 k) (ih (k + 1) o' _ _ _ _ _ _ (by omega) (fun _ => hP (by omega)) hO' hV' (fun rc le ow al ag aw o2 hO2 hV2 hc2 => ?_) (fun rc le ow al ag aw hH => ?_)))
      · refine K1 _ _ _ _ _ _ o2 hO2 hV2 (fun i hi => ?_)
        rw [hc2 i hi, hc i hi]
        by_cases e : i = j
        · rw [if_pos e, if_pos e, if_pos e]; omega
        · rw [if_neg e, if_neg e, if_neg e]
      · refine K0 _ _ _ _ _ _ (fun H => hH (im_H_le H fun i hi => ?_))
        show im_ct o' i + _ ≤ im_ct o i + _
        rw [hc i hi]
        by_cases e : i = j
        · rw [if_pos e, if_pos e, if_pos e]; omega
        · rw [if_neg e, if_neg e, if_neg e]; omega
    · refine br_t rfl (K0 _ _ _ _ _ _ (im_inf hS hj hb ht (fun i hi _ => ?_) ?_))
      · show im_ct o i ≤ im_ct o i + _
        omega
      · show im_ct o j < im_ct o j + (if j = j then d + 1 else 0)
        rw [if_pos rfl]; omega
theorem xw_many {post : Int32 → SX → Prop} {j n : Nat} {o : Nat → Nat} (ok : xa_ok fr un mu ma wo afr aun amu amy awo) (hs : s < 2 ^ 24) (hj : j < 6) (hn : n < 128) (hP : 0 < n → pm.testBit j = true) (hO : zi_OW aow o) (hV : im_V (im_g pm fr un s) o)
    (K1 : ∀ rc le (ow al ag aw : Nat → Int32) o', zi_OW ow o' → im_V (im_g pm fr un s) o' → (∀ i, i < 6 → im_ct o' i = im_ct o i + (if i = j then n else 0)) → post 1 (vpr, vbl, nI s, rc, le, vkn, vll, afr, aun, amu, amy, awo, ow, al, ag, aw, aku, afp, atg))
    (K0 : ∀ rc le (ow al ag aw : Nat → Int32), ¬ im_H (im_g pm fr un s) (fun i => im_ct o i + (if i = j then n else 0)) → post 0 (vpr, vbl, nI s, rc, le, vkn, vll, afr, aun, amu, amy, awo, ow, al, ag, aw, aku, afp, atg)) :
    wpX_giveMany post (vpr, vbl, nI s, vrc, vle, vkn, vll, afr, aun, amu, amy, awo, aow, aln, agu, awb, aku, afp, atg) (nI j) (nI n) :=
  ⟨n + 1, xw_many_l ok hs hj hn n 0 o vrc vle aow aln agu awb (by omega) hP hO hV K1 K0⟩
theorem xw_musts_l {post : Int32 → SX → Prop} (hpm : pm < 64) (ok : xa_ok fr un mu ma wo afr aun amu amy awo) (hs : s < 2 ^ 24)
    (K1 : ∀ rc le (ow al ag aw : Nat → Int32) o', zi_OW ow o' → im_V (im_g pm fr un s) o' → (∀ i, i < 6 → im_ct o' i = im_cm pm mu i) → post 1 (nI pm, vbl, nI s, rc, le, vkn, vll, afr, aun, amu, amy, awo, ow, al, ag, aw, aku, afp, atg))
    (K0 : ∀ rc le (ow al ag aw : Nat → Int32), ¬ im_H (im_g pm fr un s) (im_cm pm mu) → post 0 (nI pm, vbl, nI s, rc, le, vkn, vll, afr, aun, amu, amy, awo, ow, al, ag, aw, aku, afp, atg)) :
    ∀ d j (o : Nat → Nat) rc le (ow al ag aw : Nat → Int32), j + d = 6 → zi_OW ow o → im_V (im_g pm fr un s) o → (∀ i, i < 6 → im_ct o i = if i < j then im_cm pm mu i else 0) →
    wX_giveMusts_2 post (d + 1) (nI j) (nI pm) vbl (nI s) rc le vkn vll afr aun amu amy awo ow al ag aw aku afp atg := by
  intro d
  induction d with
  | zero =>
    intro j o rc le ow al ag aw hj hO hV hc
    exact br_t (nI_le (a := 6) (by omega) (by omega)) (K1 _ _ _ _ _ _ o hO hV (fun i hi => by rw [hc i hi, if_pos (by omega)]))
  | succ d ih =>
    intro j o rc le ow al ag aw hj hO hV hc
    have oj := ok j (by omega)
    have cj : (nI j).toNatClampNeg = j := zi_cl
    refine br_f (nI_ge (b := 6) (by omega) (by decide)) (xw_has (by omega) hpm (fun hP => ?_) (fun hP => ?_))
    · refine br_f (by decide) (And.intro (vp_in_nI (by omega) (by omega)) ?_)
      rw [cj, oj.2.2.1.1]
      refine xw_many ok hs (by omega) (by omega) (fun _ => hP) hO hV (fun rc le ow al ag aw o' hO' hV' hc' => ?_) (fun rc le ow al ag aw hH => ?_)
      · refine br_f (by decide) (nm_r (nI_1 j) (ih (j + 1) o' _ _ _ _ _ _ (by omega) hO' hV' (fun i hi => ?_)))
        rw [hc' i hi, hc i hi]
        by_cases e : i = j
        · subst e
          rw [if_neg (by omega), if_pos rfl, if_pos (by omega), im_cm, if_pos hP, Nat.zero_add]
        · rw [if_neg e]
          by_cases l : i < j
          · rw [if_pos l, if_pos (by omega)]; rfl
          · rw [if_neg l, if_neg (by omega)]
      · refine br_t rfl (K0 _ _ _ _ _ _ (fun H => hH (im_H_le H fun i hi => ?_)))
        show im_ct o i + _ ≤ _
        rw [hc i hi]
        by_cases e : i = j
        · subst e
          rw [if_neg (by omega), if_pos rfl, im_cm, if_pos hP]; omega
        · rw [if_neg e]
          split <;> omega
    · refine br_t rfl (nm_r (nI_1 j) (ih (j + 1) o _ _ _ _ _ _ (by omega) hO hV (fun i hi => ?_)))
      rw [hc i hi]
      by_cases e : i = j
      · subst e
        rw [if_neg (by omega), if_pos (by omega), im_cm, if_neg (by rw [hP]; decide)]
      · by_cases l : i < j
        · rw [if_pos l, if_pos (by omega)]
        · rw [if_neg l, if_neg (by omega)]
theorem xw_musts {post : Int32 → SX → Prop} {ow0 : Nat → Int32} (hpm : pm < 64) (ok : xa_ok fr un mu ma wo afr aun amu amy awo) (hs : s < 2 ^ 24) (h0 : ∀ t, t < 24 → ow0 t = -1)
    (K1 : ∀ rc le (ow al ag aw : Nat → Int32) o', zi_OW ow o' → im_V (im_g pm fr un s) o' → (∀ i, i < 6 → im_ct o' i = im_cm pm mu i) → post 1 (nI pm, vbl, nI s, rc, le, vkn, vll, afr, aun, amu, amy, awo, ow, al, ag, aw, aku, afp, atg))
    (K0 : ∀ rc le (ow al ag aw : Nat → Int32), ¬ im_H (im_g pm fr un s) (im_cm pm mu) → post 0 (nI pm, vbl, nI s, rc, le, vkn, vll, afr, aun, amu, amy, awo, ow, al, ag, aw, aku, afp, atg)) :
    wpX_giveMusts post (nI pm, vbl, nI s, vrc, vle, vkn, vll, afr, aun, amu, amy, awo, ow0, aln, agu, awb, aku, afp, atg) :=
  ⟨7, xw_musts_l hpm ok hs K1 K0 6 0 (fun _ => 6) vrc vle ow0 aln agu awb (by omega) (fun t ht => h0 t ht) (fun t _ => Or.inl rfl) (fun i hi => by rw [im_ct_0 (fun _ _ => rfl) hi, if_neg (by omega)])⟩
theorem xw_possible {post : Int32 → SX → Prop} {bm : Nat} (hpm : pm < 64) (ok : xa_ok fr un mu ma wo afr aun amu amy awo) (hbm : bm < 2 ^ 24)
    (K1 : ∀ sh rc le (ow al ag aw : Nat → Int32), im_H (im_g pm fr un bm) (im_cm pm mu) → post 1 (nI pm, nI bm, sh, rc, le, vkn, vll, afr, aun, amu, amy, awo, ow, al, ag, aw, aku, afp, atg))
    (K0 : ∀ sh rc le (ow al ag aw : Nat → Int32), ¬ im_H (im_g pm fr un bm) (im_cm pm mu) → post 0 (nI pm, nI bm, sh, rc, le, vkn, vll, afr, aun, amu, amy, awo, ow, al, ag, aw, aku, afp, atg)) :
    wpX_possible post (nI pm, nI bm, vsh, vrc, vle, vkn, vll, afr, aun, amu, amy, awo, aow, aln, agu, awb, aku, afp, atg) := by
  unfold wpX_possible
  refine xw_begin (fun ow0 h0 => xw_musts hpm ok hbm h0 (fun rc le ow al ag aw o' hO hV hc => ⟨narrow_b1, K1 _ _ _ _ _ _ _ ((im_H_c hc).mp (im_V_H hV))⟩) (fun rc le ow al ag aw hH => ⟨narrow_b0, K0 _ _ _ _ _ _ _ hH⟩))
theorem xw_rest_l {post : Int32 → SX → Prop} {w : Nat → Nat} (ok : xa_ok fr un mu ma wo afr aun amu amy awo) (hs : s < 2 ^ 24) (hw : ∀ j, j < 6 → atg j = nI (w j) ∧ w j < 128 ∧ (0 < w j → pm.testBit j = true))
    (K1 : ∀ rc le (ow al ag aw : Nat → Int32), im_H (im_g pm fr un s) w → post 1 (vpr, vbl, nI s, rc, le, vkn, vll, afr, aun, amu, amy, awo, ow, al, ag, aw, aku, afp, atg))
    (K0 : ∀ rc le (ow al ag aw : Nat → Int32), ¬ im_H (im_g pm fr un s) w → post 0 (vpr, vbl, nI s, rc, le, vkn, vll, afr, aun, amu, amy, awo, ow, al, ag, aw, aku, afp, atg)) :
    ∀ d j (o : Nat → Nat) rc le (ow al ag aw : Nat → Int32), j + d = 6 → zi_OW ow o → im_V (im_g pm fr un s) o → (∀ i, i < 6 → im_ct o i = if i < j then w i else 0) →
    wX_restFits_16 post (d + 1) (nI j) vpr vbl (nI s) rc le vkn vll afr aun amu amy awo ow al ag aw aku afp atg := by
  intro d
  induction d with
  | zero =>
    intro j o rc le ow al ag aw hj hO hV hc
    exact br_t (nI_le (a := 6) (by omega) (by omega)) (K1 _ _ _ _ _ _ ((im_H_c fun i hi => by rw [hc i hi, if_pos (by omega)]).mp (im_V_H hV)))
  | succ d ih =>
    intro j o rc le ow al ag aw hj hO hV hc
    have oj := hw j (by omega)
    have cj : (nI j).toNatClampNeg = j := zi_cl
    refine br_f (nI_ge (b := 6) (by omega) (by decide)) (And.intro (vp_in_nI (by omega) (by omega)) ?_)
    rw [cj, oj.1]
    refine xw_many ok hs (by omega) oj.2.1 oj.2.2 hO hV (fun rc le ow al ag aw o' hO' hV' hc' => ?_) (fun rc le ow al ag aw hH => ?_)
    · refine br_f (by decide) (nm_r (nI_1 j) (ih (j + 1) o' _ _ _ _ _ _ (by omega) hO' hV' (fun i hi => ?_)))
      rw [hc' i hi, hc i hi]
      by_cases e : i = j
      · subst e
        rw [if_neg (by omega), if_pos rfl, if_pos (by omega), Nat.zero_add]
      · rw [if_neg e]
        by_cases l : i < j
        · rw [if_pos l, if_pos (by omega)]; rfl
        · rw [if_neg l, if_neg (by omega)]
    · refine br_t rfl (K0 _ _ _ _ _ _ (fun H => hH (im_H_le H fun i hi => ?_)))
      show im_ct o i + _ ≤ _
      rw [hc i hi]
      by_cases e : i = j
      · subst e
        rw [if_neg (by omega), if_pos rfl]; omega
      · rw [if_neg e]
        split <;> omega
theorem xw_rest {post : Int32 → SX → Prop} {w : Nat → Nat} {bm t : Nat} (ok : xa_ok fr un mu ma wo afr aun amu amy awo) (hbm : bm < 2 ^ 24) (ht : t ≤ 24) (hw : ∀ j, j < 6 → atg j = nI (w j) ∧ w j < 128 ∧ (0 < w j → pm.testBit j = true))
    (K1 : ∀ sh rc le (ow al ag aw : Nat → Int32), im_H (im_g pm fr un (bm ||| (2 ^ t - 1))) w → post 1 (vpr, nI bm, sh, rc, le, vkn, vll, afr, aun, amu, amy, awo, ow, al, ag, aw, aku, afp, atg))
    (K0 : ∀ sh rc le (ow al ag aw : Nat → Int32), ¬ im_H (im_g pm fr un (bm ||| (2 ^ t - 1))) w → post 0 (vpr, nI bm, sh, rc, le, vkn, vll, afr, aun, amu, amy, awo, ow, al, ag, aw, aku, afp, atg)) :
    wpX_restFits post (vpr, nI bm, vsh, vrc, vle, vkn, vll, afr, aun, amu, amy, awo, aow, aln, agu, awb, aku, afp, atg) (nI t) := by
  have hp : 2 ^ t ≤ 2 ^ 24 := Nat.pow_le_pow_right (by decide) ht
  have h1 : 1 ≤ 2 ^ t := Nat.one_le_two_pow
  have hb : bm ||| (2 ^ t - 1) < 2 ^ 24 := Nat.or_lt_two_pow hbm (by omega)
  have e : nI bm ||| ((1 : Int32) <<< (nI t &&& 31) - 1) = nI (bm ||| (2 ^ t - 1)) := by
    rw [zi_sh (by omega)]
    show nI bm ||| (nI (2 ^ t) - nI 1) = _
    rw [pk_sub h1, zi_or]
  unfold wpX_restFits
  dsimp only
  rw [e]
  refine xw_begin (fun ow0 h0 => ⟨7, ?_⟩)
  exact xw_rest_l ok hb hw (fun rc le ow al ag aw => K1 _ _ _ _ _ _ _) (fun rc le ow al ag aw => K0 _ _ _ _ _ _ _) 6 0 (fun _ => 6) vrc vle ow0 aln agu awb (by omega) (fun t ht => h0 t ht) (fun t _ => Or.inl rfl) (fun i hi => by rw [im_ct_0 (fun _ _ => rfl) hi, if_neg (by omega)])
end
end
section
/-! X: nextInOrder, leastLossWith -/
def nx_S (pm D : Nat) (wo : Nat → Nat) (b j : Nat) : Prop :=
  (b = 6 ∧ ∀ i, i < j → pm.testBit i = true → D.testBit i = true) ∨
  (b < 6 ∧ b < j ∧ pm.testBit b = true ∧ D.testBit b = false ∧ ∀ i, i < j → pm.testBit i = true → D.testBit i = false → i = b ∨ im_bf wo b i = true)
section
variable {vpr vbl vsh vrc vle vkn vll : Int32} {afr aun amu amy awo aow aln agu awb aku afp atg : Nat → Int32}
variable {fr un mu ma wo : Nat → Nat} {pm s : Nat}
theorem xw_next_l {post : Int32 → Prop} {D : Nat} (hpm : pm < 64) (hD : D < 64) (ok : xa_ok fr un mu ma wo afr aun amu amy awo) (K : ∀ b, nx_S pm D wo b 6 → post (zi_o b)) :
    ∀ d j b, j + d = 6 → nx_S pm D wo b j → wX_nextInOrder_4 post (nI D) (nI pm) vbl vsh vrc vle vkn vll afr aun amu amy awo aow aln agu awb aku afp atg (d + 1) (zi_o b) (nI j) := by
  intro d
  induction d with
  | zero =>
    intro j b hj hb
    have e : j = 6 := by omega
    subst e
    exact br_t (nI_le (a := 6) (by omega) (by omega)) (K b hb)
  | succ d ih =>
    intro j b hj hb
    have oj := ok j (by omega)
    have cj : (nI j).toNatClampNeg = j := zi_cl
    refine br_f (nI_ge (b := 6) (by omega) (by decide)) (xw_has (by omega) hpm (fun hP => ?_) (fun hP => ?_))
    · refine br_f (by decide) (br_c (fun z => ?_) (fun z => ?_))
      · rw [zi_b0 (by omega) (by omega)] at z
        rcases hb with ⟨h6, hb⟩ | ⟨h6, hbj, hbP, hbD, hb⟩
        · subst h6
          refine br_t (by decide) (nm_r (nI_1 j) ?_)
          have := ih (j + 1) j (by omega) (Or.inr ⟨by omega, by omega, hP, z, fun i hi hp hd => ?_⟩)
          · rw [zi_ol (by omega)] at this; exact this
          · rcases Nat.lt_or_ge i j with y | y
            · rw [hb i y hp] at hd; cases hd
            · exact Or.inl (by omega)
        · have ob := ok b h6
          have cb : (nI b).toNatClampNeg = b := zi_cl
          rw [zi_ol h6]
          refine br_f (nI_pos (by omega)) (And.intro (vp_in_nI (by omega) (by omega)) (And.intro (vp_in_nI h6 (by omega)) ?_))
          rw [cj, cb, oj.2.2.2.2.1, ob.2.2.2.2.1]
          refine br_c (fun y => nm_r (nI_1 j) ?_) (fun y => nm_r (nI_1 j) ?_)
          · rw [nI_leI (by omega) (by omega)] at y
            have := ih (j + 1) b (by omega) (Or.inr ⟨h6, by omega, hbP, hbD, fun i hi hp hd => ?_⟩)
            · rw [zi_ol h6] at this; exact this
            · rcases Nat.lt_or_ge i j with x | x
              · exact hb i x hp hd
              · have e : i = j := by omega
                subst e
                exact Or.inr (im_bf_i.mpr (by omega))
          · rw [nI_leI (by omega) (by omega)] at y
            have := ih (j + 1) j (by omega) (Or.inr ⟨by omega, by omega, hP, z, fun i hi hp hd => ?_⟩)
            · rw [zi_ol (by omega)] at this; exact this
            · rcases Nat.lt_or_ge i j with x | x
              · refine Or.inr (im_bf_i.mpr ?_)
                rcases hb i x hp hd with e | e
                · subst e; omega
                · rw [im_bf_i] at e; omega
              · exact Or.inl (by omega)
      · rw [zi_b0 (by omega) (by omega), Bool.not_eq_false] at z
        refine nm_r (nI_1 j) (ih (j + 1) b (by omega) ?_)
        rcases hb with ⟨h6, hb⟩ | ⟨h6, hbj, hbP, hbD, hb⟩
        · refine Or.inl ⟨h6, fun i hi hp => ?_⟩
          rcases Nat.lt_or_ge i j with x | x
          · exact hb i x hp
          · have e : i = j := by omega
            subst e; exact z
        · refine Or.inr ⟨h6, by omega, hbP, hbD, fun i hi hp hd => ?_⟩
          rcases Nat.lt_or_ge i j with x | x
          · exact hb i x hp hd
          · have e : i = j := by omega
            subst e; rw [z] at hd; cases hd
    · refine br_t rfl (nm_r (nI_1 j) (ih (j + 1) b (by omega) ?_))
      rcases hb with ⟨h6, hb⟩ | ⟨h6, hbj, hbP, hbD, hb⟩
      · refine Or.inl ⟨h6, fun i hi hp => ?_⟩
        rcases Nat.lt_or_ge i j with x | x
        · exact hb i x hp
        · have e : i = j := by omega
          subst e; rw [hP] at hp; cases hp
      · refine Or.inr ⟨h6, by omega, hbP, hbD, fun i hi hp hd => ?_⟩
        rcases Nat.lt_or_ge i j with x | x
        · exact hb i x hp hd
        · have e : i = j := by omega
          subst e; rw [hP] at hp; cases hp
theorem xw_next {post : Int32 → Prop} {D : Nat} (hpm : pm < 64) (hD : D < 64) (ok : xa_ok fr un mu ma wo afr aun amu amy awo) (K : ∀ b, nx_S pm D wo b 6 → post (zi_o b)) : wpX_nextInOrder post (nI pm, vbl, vsh, vrc, vle, vkn, vll, afr, aun, amu, amy, awo, aow, aln, agu, awb, aku, afp, atg) (nI D) :=
  ⟨7, xw_next_l hpm hD ok K 6 0 6 (by omega) (Or.inl ⟨rfl, fun i hi => by omega⟩)⟩
end
def ll_I (g : Nat → Nat → Bool) (pm : Nat) (mu ma wo ks : Nat → Nat) (D : Nat) : Prop :=
  D < 64 ∧ (∀ i, i < 6 → D.testBit i = true → pm.testBit i = true) ∧
  (∀ i l, i < 6 → l < 6 → D.testBit i = true → pm.testBit l = true → D.testBit l = false → im_bf wo i l = true) ∧
  ∀ i, i < 6 → D.testBit i = true → ks i ≤ ma i ∧ (ks i < ma i → ∃ S, S < 64 ∧ S.testBit i = true ∧ im_rm g S ≤ im_dm (im_pt (fun l => im_P pm l && (im_bf wo l i || l == i)) (im_cm pm mu) ks) S)
theorem ll_or {D j i : Nat} : (D ||| 2 ^ j).testBit i = (D.testBit i || decide (j = i)) := by rw [Nat.testBit_or, zi_t2]
theorem ll_step {g : Nat → Nat → Bool} {pm D j n : Nat} {mu ma wo ks c : Nat → Nat} (h : ll_I g pm mu ma wo ks D) (hj : j < 6) (hP : pm.testBit j = true) (hD : D.testBit j = false) (hx : ∀ i, i < 6 → pm.testBit i = true → D.testBit i = false → i = j ∨ im_bf wo j i = true)
    (hn : n ≤ ma j) (hc : ∀ i, i < 6 → c i = im_pt (im_P D) (im_cm pm mu) ks i + (if i = j then n else 0)) (ht : n = ma j ∨ ∃ S, S < 64 ∧ S.testBit j = true ∧ im_rm g S ≤ im_dm c S) : ll_I g pm mu ma wo (im_u ks j n) (D ||| 2 ^ j) := by
  obtain ⟨h1, h2, h3, h4⟩ := h
  refine ⟨im_or64 h1 (Nat.pow_lt_pow_right (a := 2) (m := j) (n := 6) (by decide) hj), fun i hi hb => ?_, fun i l hi hl hb hp hd => ?_, fun i hi hb => ?_⟩
  · rw [ll_or] at hb
    by_cases e : j = i
    · subst e; exact hP
    · rw [decide_eq_false e, Bool.or_false] at hb
      exact h2 i hi hb
  · rw [ll_or, Bool.or_eq_false_iff] at hd
    rw [ll_or] at hb
    by_cases e : j = i
    · subst e
      rcases hx l hl hp hd.1 with z | z
      · subst z
        have := hd.2
        rw [decide_eq_true rfl] at this; cases this
      · exact z
    · rw [decide_eq_false e, Bool.or_false] at hb
      exact h3 i l hi hl hb hp hd.1
  · rw [ll_or] at hb
    by_cases e : j = i
    · subst e
      rw [im_us]
      refine ⟨hn, fun hlt => ?_⟩
      rcases ht with z | ⟨S, hS, hb2, ht⟩
      · omega
      · refine ⟨S, hS, hb2, Nat.le_trans ht (im_dm_le fun l hl => ?_)⟩
        rw [hc l hl]
        unfold im_pt im_P
        by_cases e : l = j
        · subst e
          simp only [hD, hP, im_us, Bool.false_eq_true, if_false, if_true, beq_self_eq_true, Bool.or_true, Bool.and_true]
          omega
        · by_cases hDl : D.testBit l = true
          · have hpl := h2 l hl hDl
            have hbl := h3 l j hl hj hDl hP hD
            simp only [hDl, hpl, hbl, im_un' e, if_true, if_neg e, Bool.true_or, Bool.and_true]
            omega
          · rw [if_neg hDl, if_neg e]
            omega
    · rw [decide_eq_false e, Bool.or_false] at hb
      have hne : i ≠ j := fun z => e z.symm
      rw [im_un' hne]
      refine ⟨(h4 i hi hb).1, fun hlt => ?_⟩
      obtain ⟨S, hS, hb2, ht2⟩ := (h4 i hi hb).2 hlt
      refine ⟨S, hS, hb2, Nat.le_trans ht2 (im_dm_le fun l hl => ?_)⟩
      unfold im_pt
      by_cases el : l = j
      · subst el
        have hb3 := h3 i l hi hl hb hP hD
        have : (im_bf wo l i || l == i) = false := by
          rw [Bool.or_eq_false_iff, im_bf_f, beq_eq_false_iff_ne]
          rw [im_bf_i] at hb3
          exact ⟨by omega, e⟩
        simp only [this, Bool.and_false, Bool.false_eq_true, if_false]
        exact Nat.le_refl _
      · rw [im_un' el]; exact Nat.le_refl _
theorem ll_ls {D j n : Nat} {ma wo ks : Nat → Nat} (hj : j < 6) (hD : D.testBit j = false) : im_ls (im_P (D ||| 2 ^ j)) ma wo (im_u ks j n) = im_ls (im_P D) ma wo ks + wo j * (ma j - n) := by
  unfold im_ls im_P
  rw [im_s_c (g := fun i => (if D.testBit i = true then wo i * (ma i - ks i) else 0) + (if i = j then wo j * (ma j - n) else 0)), im_s_add, im_s_1 hj]
  intro i _
  rw [ll_or]
  by_cases e : i = j
  · subst e
    rw [decide_eq_true rfl, Bool.or_true, if_pos rfl, if_pos rfl, im_us, hD, if_neg (by decide), Nat.zero_add]
  · rw [decide_eq_false (fun z => e z.symm), Bool.or_false, if_neg e, im_un' e]; rfl
theorem ll_n {D j : Nat} (hj : j < 6) (hD : D.testBit j = false) : im_n (im_P (D ||| 2 ^ j)) = im_n (im_P D) + 1 := by
  unfold im_n im_P
  rw [im_s_c (g := fun i => (D.testBit i).toNat + (if i = j then 1 else 0)), im_s_add, im_s_1 hj]
  intro i _
  rw [ll_or]
  by_cases e : i = j
  · subst e
    rw [decide_eq_true rfl, Bool.or_true, if_pos rfl, hD]; rfl
  · rw [decide_eq_false (fun z => e z.symm), Bool.or_false, if_neg e]; rfl
theorem ll_pt {D j n : Nat} {cm ks : Nat → Nat} {i : Nat} (hD : D.testBit j = false) : im_pt (im_P (D ||| 2 ^ j)) cm (im_u ks j n) i = im_pt (im_P D) cm ks i + (if i = j then n else 0) := by
  unfold im_pt im_P
  rw [ll_or]
  by_cases e : i = j
  · subst e
    rw [decide_eq_true rfl, Bool.or_true, if_pos rfl, if_pos rfl, im_us, hD, if_neg (by decide)]; omega
  · rw [decide_eq_false (fun z => e z.symm), Bool.or_false, if_neg e, im_un' e]; rfl
theorem ll_end {g : Nat → Nat → Bool} {pm D : Nat} {mu ma wo ks : Nat → Nat} (h : ll_I g pm mu ma wo ks D) (hH : im_H g (im_pt (im_P D) (im_cm pm mu) ks)) (hx : (∀ i, i < 6 → pm.testBit i = true → D.testBit i = true) ∨ 6 ≤ im_n (im_P D)) :
    im_GS g (im_P pm) (im_cm pm mu) ma wo ks ∧ (∀ i, i < 6 → im_P D i = im_P pm i) := by
  have a : ∀ i, i < 6 → pm.testBit i = true → D.testBit i = true := by
    rcases hx with z | z
    · exact z
    · intro i hi _
      have := im_all1 (f := fun i => (im_P D i).toNat) (fun i _ => Bool.toNat_le _) z i hi
      have e : (D.testBit i).toNat = 1 := this
      cases h : D.testBit i
      · rw [h] at e; cases e
      · rfl
  have b : ∀ i, i < 6 → im_P D i = im_P pm i := by
    intro i hi
    unfold im_P
    rw [Bool.eq_iff_iff]
    exact ⟨h.2.1 i hi, a i hi⟩
  refine ⟨⟨(im_H_c fun j hj => ?_).mp hH, fun i hi hP => h.2.2.2 i hi (a i hi hP)⟩, b⟩
  unfold im_pt
  rw [b j hj]
end
section
/-! X: leastLossWith -/
theorem ll_z {i : Nat} {p : Prop} (h : Nat.testBit 0 i = true) : p := by rw [Nat.zero_testBit] at h; cases h
section
variable {vpr vbl vsh vrc vle vkn vll : Int32} {afr aun amu amy awo aow aln agu awb aku afp atg : Nat → Int32}
variable {fr un mu ma wo : Nat → Nat} {pm s : Nat}
theorem xw_ll_in {post : Int32 → SX → Prop} {J : Int32 → Int32 → Int32 → Int32 → Int32 → Int32 → Int32 → Int32 → Int32 → Int32 → (Nat → Int32) → (Nat → Int32) → (Nat → Int32) → (Nat → Int32) → (Nat → Int32) → (Nat → Int32) → (Nat → Int32) → (Nat → Int32) → (Nat → Int32) → (Nat → Int32) → (Nat → Int32) → (Nat → Int32) → Prop} {x2 x3 x4 : Int32} {j : Nat} {c : Nat → Nat} (ok : xa_ok fr un mu ma wo afr aun amu amy awo) (hs : s < 2 ^ 24) (hj : j < 6) (hP : pm.testBit j = true)
    (K : ∀ n rc le (ow al ag aw : Nat → Int32) o, n ≤ ma j → zi_OW ow o → im_V (im_g pm fr un s) o → (∀ i, i < 6 → im_ct o i = c i + (if i = j then n else 0)) → (n = ma j ∨ ∃ S, S < 64 ∧ S.testBit j = true ∧ im_rm (im_g pm fr un s) S ≤ im_dm (im_ct o) S) → wX_leastLossWith_77 post J x2 x3 x4 (nI j) (nI n) vpr vbl (nI s) rc le vkn vll afr aun amu amy awo ow al ag aw aku afp atg) :
    ∀ d n (o : Nat → Nat) rc le (ow al ag aw : Nat → Int32), n + d = ma j → zi_OW ow o → im_V (im_g pm fr un s) o → (∀ i, i < 6 → im_ct o i = c i + (if i = j then n else 0)) → wX_leastLossWith_50 post J x2 x3 x4 (nI j) (d + 1) (nI n) vpr vbl (nI s) rc le vkn vll afr aun amu amy awo ow al ag aw aku afp atg := by
  have oj := ok j hj
  have cj : (nI j).toNatClampNeg = j := zi_cl
  intro d
  induction d with
  | zero =>
    intro n o rc le ow al ag aw hn hO hV hc
    refine And.intro (vp_in_nI hj (by omega)) ?_
    rw [cj, oj.2.2.2.1.1]
    exact br_t (nI_le (by omega) (by omega)) (K n _ _ _ _ _ _ o (by omega) hO hV hc (Or.inl (by omega)))
  | succ d ih =>
    intro n o rc le ow al ag aw hn hO hV hc
    refine And.intro (vp_in_nI hj (by omega)) ?_
    rw [cj, oj.2.2.2.1.1]
    refine br_f (nI_ge (by omega) (by omega)) ?_
    refine xw_give ok hs hj hP hO hV (fun rc le ow al ag aw o' hO' hV' hc' => ?_) (fun rc le al ag aw S hS hb ht => ?_)
    · refine br_f (by decide) (nm_r (nI_1 n) (ih (n + 1) o' _ _ _ _ _ _ (by omega) hO' hV' (fun i hi => ?_)))
      rw [hc' i hi, hc i hi]
      by_cases e : i = j
      · rw [if_pos e, if_pos e, if_pos e]; omega
      · rw [if_neg e, if_neg e, if_neg e]
    · exact br_t rfl (K n _ _ _ _ _ _ o (by omega) hO hV hc (Or.inr ⟨S, hS, hb, ht⟩))
theorem xw_ll_out {post : Int32 → SX → Prop} (hpm : pm < 64) (ok : xa_ok fr un mu ma wo afr aun amu amy awo) (hs : s < 2 ^ 24)
    (K : ∀ rc le (ow al ag aw : Nat → Int32) (ku : Nat → Int32) ks, im_GS (im_g pm fr un s) (im_P pm) (im_cm pm mu) ma wo ks → (∀ i, i < 6 → pm.testBit i = true → ku i = nI (ks i)) → post (nI (im_ls (im_P pm) ma wo ks)) (nI pm, vbl, nI s, rc, le, vkn, vll, afr, aun, amu, amy, awo, ow, al, ag, aw, ku, afp, atg)) :
    ∀ d k D ks (o : Nat → Nat) rc le (ow al ag aw : Nat → Int32) (ku : Nat → Int32), k + d = 6 → ll_I (im_g pm fr un s) pm mu ma wo ks D → zi_OW ow o → im_V (im_g pm fr un s) o → (∀ i, i < 6 → im_ct o i = im_pt (im_P D) (im_cm pm mu) ks i) → (∀ i, i < 6 → D.testBit i = true → ku i = nI (ks i)) → ((∀ i, i < 6 → pm.testBit i = true → D.testBit i = true) ∨ k ≤ im_n (im_P D)) →
    wX_leastLossWith_21 post (d + 1) (nI (im_ls (im_P D) ma wo ks)) (nI D) (nI k) (nI pm) vbl (nI s) rc le vkn vll afr aun amu amy awo ow al ag aw ku afp atg := by
  have hw : ∀ j, j < 6 → wo j ≤ 9 := fun j hj => (ok j hj).2.2.2.2.2
  have hm : ∀ j, j < 6 → ma j ≤ 6 := fun j hj => (ok j hj).2.2.2.1.2
  intro d
  induction d with
  | zero =>
    intro k D ks o rc le ow al ag aw ku hk hI hO hV hc hu hx
    have e : k = 6 := by omega
    subst e
    obtain ⟨hG, hb⟩ := ll_end hI ((im_H_c hc).mp (im_V_H hV)) hx
    refine br_t (nI_le (a := 6) (by omega) (by omega)) ?_
    have e : im_ls (im_P D) ma wo ks = im_ls (im_P pm) ma wo ks := im_s_c fun i hi => by rw [hb i hi]
    rw [e]
    refine K _ _ _ _ _ _ ku ks hG (fun i hi hP => hu i hi ?_)
    have := hb i hi
    unfold im_P at this
    rw [this]; exact hP
  | succ d ih =>
    intro k D ks o rc le ow al ag aw ku hk hI hO hV hc hu hx
    refine br_f (nI_ge (b := 6) (by omega) (by decide)) (xw_next hpm hI.1 ok (fun b hb => ?_))
    rcases hb with ⟨h6, hb⟩ | ⟨h6, hbj, hbP, hbD, hb⟩
    · subst h6
      exact br_t (by decide) (nm_r (nI_1 k) (ih (k + 1) D ks o _ _ _ _ _ _ ku (by omega) hI hO hV hc hu (Or.inl hb)))
    · have ob := ok b h6
      have hD := hI.1
      have cb : (nI b).toNatClampNeg = b := zi_cl
      rw [zi_ol h6]
      refine br_f (nI_pos (by omega)) ?_
      rw [zi_sh (by omega), zi_or]
      refine nm_e ⟨ma b + 1, ?_⟩
      refine xw_ll_in (c := im_pt (im_P D) (im_cm pm mu) ks) ok hs h6 hbP (fun n rc le ow al ag aw o' hn hO' hV' hc' ht => ?_) (ma b) 0 o _ _ _ _ _ _ (by omega) hO hV (fun i hi => by rw [hc i hi]; split <;> rfl)
      have hib : vp_in (nI b) 6 := vp_in_nI h6 (by omega)
      refine And.intro hib ?_
      rw [cb, zi_nb n (by omega), ob.2.2.2.1.1, ob.2.2.2.2.1, pk_sub hn, pk_mul, nI_add, ← ll_ls (ks := ks) h6 hbD]
      refine nm_e (And.intro hib (And.intro hib (nm_e (nm_r (nI_1 k) ?_))))
      refine ih (k + 1) (D ||| 2 ^ b) (im_u ks b n) o' _ _ _ _ _ _ _ (by omega) (ll_step hI h6 hbP hbD hb hn hc' ht) hO' hV' (fun i hi => ?_) (fun i hi hbi => ?_) ?_
      · rw [hc' i hi, ll_pt hbD]
      · by_cases e : i = b
        · subst e; rw [pk_us, im_us]
        · rw [pk_un e, im_un' e]
          rw [ll_or, decide_eq_false (fun z => e z.symm), Bool.or_false] at hbi
          exact hu i hi hbi
      · rcases hx with z | z
        · have := z b h6 hbP
          rw [hbD] at this; cases this
        · right
          rw [ll_n h6 hbD]; omega
theorem xw_ll {post : Int32 → SX → Prop} (hpm : pm < 64) (ok : xa_ok fr un mu ma wo afr aun amu amy awo) (hs : s < 2 ^ 24)
    (K1 : ∀ rc le (ow al ag aw : Nat → Int32) (ku : Nat → Int32) ks, im_GS (im_g pm fr un s) (im_P pm) (im_cm pm mu) ma wo ks → (∀ i, i < 6 → pm.testBit i = true → ku i = nI (ks i)) → post (nI (im_ls (im_P pm) ma wo ks)) (nI pm, vbl, nI s, rc, le, vkn, vll, afr, aun, amu, amy, awo, ow, al, ag, aw, ku, afp, atg))
    (K0 : ∀ rc le (ow al ag aw : Nat → Int32), ¬ im_H (im_g pm fr un s) (im_cm pm mu) → post (-1) (nI pm, vbl, nI s, rc, le, vkn, vll, afr, aun, amu, amy, awo, ow, al, ag, aw, aku, afp, atg)) :
    wpX_leastLossWith post (nI pm, vbl, vsh, vrc, vle, vkn, vll, afr, aun, amu, amy, awo, aow, aln, agu, awb, aku, afp, atg) (nI s) := by
  unfold wpX_leastLossWith
  refine xw_begin (fun ow0 h0 => xw_musts hpm ok hs h0 (fun rc le ow al ag aw o' hO hV hc => ?_) (fun rc le ow al ag aw hH => ?_))
  · refine br_f (by decide) ⟨7, ?_⟩
    have := xw_ll_out hpm ok hs K1 6 0 0 (fun _ => 0) o' rc le ow al ag aw aku (by omega) ⟨by omega, fun i _ h => ll_z h, fun i l _ _ h => ll_z h, fun i _ h => ll_z h⟩ hO hV (fun i hi => by
      rw [hc i hi]; unfold im_pt im_P; rw [Nat.zero_testBit, if_neg (by decide)]; rfl) (fun i _ h => ll_z h) (Or.inr (by omega))
    have e : im_ls (im_P 0) ma wo (fun _ => 0) = 0 := im_s_0 fun i _ => by unfold im_P; rw [Nat.zero_testBit, if_neg (by decide)]
    rw [e] at this
    exact this
  · exact br_t rfl (K0 _ _ _ _ _ _ hH)
end
end
section
/-! X: firstOwner, learn -/
def pn_C (pm : Nat) (fr un : Nat → Nat) (bm t : Nat) (w : Nat → Nat) (j : Nat) : Prop := 0 < w j ∧ im_g pm fr un bm j t = true ∧ im_H (im_g pm fr un (bm ||| (2 ^ (t + 1) - 1))) (im_u w j (w j - 1))
noncomputable def pn_w (pm : Nat) (fr un : Nat → Nat) (bm : Nat) (w0 : Nat → Nat) : Nat → Nat → Nat
  | 0 => w0
  | t + 1 => im_u (pn_w pm fr un bm w0 t) (im_pick (pn_C pm fr un bm t (pn_w pm fr un bm w0 t))) (pn_w pm fr un bm w0 t (im_pick (pn_C pm fr un bm t (pn_w pm fr un bm w0 t))) - 1)
noncomputable def pn_r (pm : Nat) (fr un : Nat → Nat) (bm : Nat) (w0 : Nat → Nat) (t : Nat) : Nat := im_pick (pn_C pm fr un bm t (pn_w pm fr un bm w0 t))
theorem pn_w_s {pm : Nat} {fr un : Nat → Nat} {bm : Nat} {w0 : Nat → Nat} {t r : Nat} (h : pn_r pm fr un bm w0 t = r) : pn_w pm fr un bm w0 (t + 1) = im_u (pn_w pm fr un bm w0 t) r (pn_w pm fr un bm w0 t r - 1) := by
  subst h; rfl
/-- an array that holds small numbers, positive only at tasks that are there -/
def pn_T (pm : Nat) (a : Nat → Int32) (w : Nat → Nat) : Prop := ∀ j, j < 6 → a j = nI (w j) ∧ w j < 128 ∧ (0 < w j → pm.testBit j = true)
theorem pn_T_dec {pm : Nat} {a : Nat → Int32} {w : Nat → Nat} {j : Nat} (h : pn_T pm a w) : pn_T pm (upd a j (nI (w j - 1))) (im_u w j (w j - 1)) := by
  intro i hi
  have := h i hi
  by_cases e : i = j
  · subst e; rw [pk_us, im_us]; exact ⟨rfl, by omega, fun z => this.2.2 (by omega)⟩
  · rw [pk_un e, im_un' e]; exact this
theorem pn_T_re {pm : Nat} {a : Nat → Int32} {w : Nat → Nat} {j : Nat} {x : Int32} (h : pn_T pm a w) : pn_T pm (upd (upd a j x) j (nI (w j))) w := by
  intro i hi
  have := h i hi
  by_cases e : i = j
  · subst e; rw [pk_us]; exact ⟨rfl, this.2⟩
  · rw [pk_un e, pk_un e]; exact this
def kn_ok (pm bm : Nat) (fr un mu ma wo : Nat → Nat) (ll : Int32) (ku fp : Nat → Int32) : Prop :=
  ∃ ks, im_GS (im_g pm fr un bm) (im_P pm) (im_cm pm mu) ma wo ks ∧ (∀ i, i < 6 → pm.testBit i = true → ku i = nI (ks i)) ∧ ll = nI (im_ls (im_P pm) ma wo ks) ∧ ∀ t, t < 24 → fp t = zi_o (pn_r pm fr un bm (im_pt (im_P pm) (im_cm pm mu) ks) t)
section
variable {vpr vbl vsh vrc vle vkn vll : Int32} {afr aun amu amy awo aow aln agu awb aku afp atg : Nat → Int32}
variable {fr un mu ma wo : Nat → Nat} {pm bm : Nat}
theorem xw_first_l {post : Int32 → SX → Prop} {w : Nat → Nat} {t : Nat} (ok : xa_ok fr un mu ma wo afr aun amu amy awo) (hbm : bm < 2 ^ 24) (ht : t < 24)
    (K : ∀ r sh rc le (ow al ag aw : Nat → Int32) (tg : Nat → Int32), im_pk (pn_C pm fr un bm t w) r → pn_T pm tg w → post (zi_o r) (vpr, nI bm, sh, rc, le, vkn, vll, afr, aun, amu, amy, awo, ow, al, ag, aw, aku, afp, tg)) :
    ∀ d j sh rc le (ow al ag aw : Nat → Int32) (tg : Nat → Int32), j + d = 6 → pn_T pm tg w → (∀ i, i < j → ¬ pn_C pm fr un bm t w i) → wX_firstOwner_2 post (nI t) (d + 1) (nI j) vpr (nI bm) sh rc le vkn vll afr aun amu amy awo ow al ag aw aku afp tg := by
  intro d
  induction d with
  | zero =>
    intro j sh rc le ow al ag aw tg hj hT hC
    have e : j = 6 := by omega
    subst e
    exact br_t (nI_le (a := 6) (by omega) (by omega)) (K 6 _ _ _ _ _ _ _ tg (Or.inr ⟨rfl, hC⟩) hT)
  | succ d ih =>
    intro j sh rc le ow al ag aw tg hj hT hC
    have oj := hT j (by omega)
    have cj : (nI j).toNatClampNeg = j := zi_cl
    have hij : vp_in (nI j) 6 := vp_in_nI (by omega) (by omega)
    have nxt : ∀ sh rc le (ow al ag aw : Nat → Int32) (tg : Nat → Int32), pn_T pm tg w → ¬ pn_C pm fr un bm t w j → wX_firstOwner_2 post (nI t) (d + 1) (nI (j + 1)) vpr (nI bm) sh rc le vkn vll afr aun amu amy awo ow al ag aw aku afp tg := by
      intro sh rc le ow al ag aw tg hT hn
      refine ih (j + 1) sh rc le ow al ag aw tg (by omega) hT (fun i hi => ?_)
      rcases Nat.lt_or_ge i j with z | z
      · exact hC i z
      · have e : i = j := by omega
        subst e; exact hn
    refine br_f (nI_ge (b := 6) (by omega) (by decide)) (xw_begin (fun ow0 h0 => And.intro hij ?_))
    rw [cj, oj.1]
    rcases Nat.eq_zero_or_pos (w j) with z | z
    · refine br_t ?_ (nm_r (nI_1 j) (nxt _ _ _ _ _ _ _ tg hT (fun h => ?_)))
      · rw [z]; decide
      · have := h.1; omega
    · refine br_f (nI_nle z (by omega)) ?_
      refine xw_inw ok (by omega) ht hbm (oj.2.2 z) (fun hg => ?_) (fun hg => ?_)
      · refine br_f (by decide) (And.intro hij (And.intro hij ?_))
        have e1 : nI (w j) - 1 = nI (w j - 1) := pk_sub (b := 1) z
        rw [e1, zi_nb _ (by omega), nI_1 t]
        refine nm_e (xw_rest (w := im_u w j (w j - 1)) ok hbm (by omega) (pn_T_dec hT) (fun sh rc le ow al ag aw hH => ?_) (fun sh rc le ow al ag aw hH => ?_))
        · refine And.intro hij (And.intro hij ?_)
          rw [pk_us, nI_1 (w j - 1), Nat.sub_add_cancel z, zi_nb _ (by omega)]
          refine nm_e (br_f (by decide) ?_)
          have := K j sh rc le ow al ag aw _ (Or.inl ⟨by omega, ⟨z, hg, hH⟩, hC⟩) (pn_T_re (j := j) (x := nI (w j - 1)) hT)
          rw [zi_ol (by omega)] at this
          exact this
        · refine And.intro hij (And.intro hij ?_)
          rw [pk_us, nI_1 (w j - 1), Nat.sub_add_cancel z, zi_nb _ (by omega)]
          exact nm_e (br_t rfl (nm_r (nI_1 j) (nxt _ _ _ _ _ _ _ _ (pn_T_re hT) (fun h => hH h.2.2))))
      · refine br_t rfl (nm_r (nI_1 j) (nxt _ _ _ _ _ _ _ tg hT (fun h => ?_)))
        rw [h.2.1] at hg; cases hg
theorem xw_plan_l {post : SX → Prop} {w0 : Nat → Nat} (ok : xa_ok fr un mu ma wo afr aun amu amy awo) (hbm : bm < 2 ^ 24)
    (K : ∀ sh rc le (ow al ag aw : Nat → Int32) (fp tg : Nat → Int32), (∀ y, y < 24 → fp y = zi_o (pn_r pm fr un bm w0 y)) → post (vpr, nI bm, sh, rc, le, 1, vll, afr, aun, amu, amy, awo, ow, al, ag, aw, aku, fp, tg)) :
    ∀ d t sh rc le (ow al ag aw : Nat → Int32) (fp tg : Nat → Int32), t + d = 24 → pn_T pm tg (pn_w pm fr un bm w0 t) → (∀ y, y < t → fp y = zi_o (pn_r pm fr un bm w0 y)) → wX_learn_68 post (d + 1) (nI t) vpr (nI bm) sh rc le vkn vll afr aun amu amy awo ow al ag aw aku fp tg := by
  intro d
  induction d with
  | zero =>
    intro t sh rc le ow al ag aw fp tg ht hT hF
    have e : t = 24 := by omega
    subst e
    exact br_t (nI_le (a := 24) (by omega) (by omega)) (K _ _ _ _ _ _ _ fp tg hF)
  | succ d ih =>
    intro t sh rc le ow al ag aw fp tg ht hT hF
    have ct : (nI t).toNatClampNeg = t := zi_cl
    have hit : vp_in (nI t) 24 := vp_in_nI (by omega) (by omega)
    refine br_f (nI_ge (b := 24) (by omega) (by decide)) ⟨7, ?_⟩
    refine xw_first_l ok hbm (by omega) (fun r sh rc le ow al ag aw tg hr hT => ?_) 6 0 _ _ _ _ _ _ _ tg (by omega) hT (fun i hi => by omega)
    have er : pn_r pm fr un bm w0 t = r := im_pick_e hr
    have r6 : r ≤ 6 := by
      rcases hr with z | z
      · omega
      · omega
    have hF' : ∀ y, y < t + 1 → upd fp t (zi_o r) y = zi_o (pn_r pm fr un bm w0 y) := by
      intro y hy
      by_cases e : y = t
      · subst e; rw [pk_us, er]
      · rw [pk_un e]; exact hF y (by omega)
    refine And.intro hit ?_
    rw [ct, zi_nbo r6]
    refine nm_e (And.intro hit ?_)
    rw [pk_us]
    have hw := pn_w_s er
    rcases hr with ⟨h6, hC, _⟩ | ⟨h6, hC⟩
    · rw [zi_ol h6] at hF' ⊢
      have cr : (nI r).toNatClampNeg = r := zi_cl
      have hir : vp_in (nI r) 6 := vp_in_nI h6 (by omega)
      have or := hT r h6
      refine br_f (nI_pos (by omega)) (And.intro hit (And.intro hir (And.intro hir ?_)))
      have e1 : nI (pn_w pm fr un bm w0 t r) - 1 = nI (pn_w pm fr un bm w0 t r - 1) := pk_sub (b := 1) hC.1
      rw [cr, or.1, e1, zi_nb _ (by omega)]
      refine nm_e (nm_r (nI_1 t) (ih (t + 1) _ _ _ _ _ _ _ _ _ (by omega) ?_ hF'))
      rw [hw]
      exact pn_T_dec hT
    · subst h6
      refine br_t (by decide) (nm_r (nI_1 t) (ih (t + 1) _ _ _ _ _ _ _ _ tg (by omega) ?_ hF'))
      rw [hw]
      intro j hj
      rw [im_un' (by omega)]
      exact hT j hj
theorem xw_togive_l {post : SX → Prop} {ks : Nat → Nat} {w0 : Nat → Nat} (hw0 : w0 = im_pt (im_P pm) (im_cm pm mu) ks) (hpm : pm < 64) (ok : xa_ok fr un mu ma wo afr aun amu amy awo) (hbm : bm < 2 ^ 24) (hk : ∀ i, i < 6 → pm.testBit i = true → aku i = nI (ks i) ∧ ks i ≤ 6)
    (K : ∀ sh rc le (ow al ag aw : Nat → Int32) (fp tg : Nat → Int32), (∀ y, y < 24 → fp y = zi_o (pn_r pm fr un bm w0 y)) → post (nI pm, nI bm, sh, rc, le, 1, vll, afr, aun, amu, amy, awo, ow, al, ag, aw, aku, fp, tg)) :
    ∀ d j (tg : Nat → Int32), j + d = 6 → (∀ i, i < j → tg i = nI (w0 i)) → wX_learn_22 post (nI pm) (nI bm) vsh vrc vle vkn vll (d + 1) (nI j) afr aun amu amy awo aow aln agu awb aku afp tg := by
  have hwv : ∀ i, i < 6 → w0 i = (if pm.testBit i = true then mu i + ks i else 0) := by
    intro i _
    rw [hw0]
    unfold im_pt im_P im_cm
    split <;> rfl
  intro d
  induction d with
  | zero =>
    intro j tg hj hT
    have e : j = 6 := by omega
    subst e
    refine br_t (nI_le (a := 6) (by omega) (by omega)) ⟨25, xw_plan_l (w0 := w0) ok hbm K 24 0 _ _ _ _ _ _ _ afp tg (by omega) (fun i hi => ?_) (fun y hy => by omega)⟩
    have oi := ok i hi
    refine ⟨hT i hi, ?_, ?_⟩
    · show w0 i < 128
      rw [hwv i hi]
      split
      · rename_i hp
        have := (hk i hi hp).2
        omega
      · omega
    · show 0 < w0 i → _
      rw [hwv i hi]
      intro z
      cases hp : pm.testBit i
      · rw [hp, if_neg (by decide)] at z; omega
      · rfl
  | succ d ih =>
    intro j tg hj hT
    have oj := ok j (by omega)
    have cj : (nI j).toNatClampNeg = j := zi_cl
    have hij : vp_in (nI j) 6 := vp_in_nI (by omega) (by omega)
    have nxt : ∀ x, x = nI (w0 j) → ∀ i, i < j + 1 → upd tg j x i = nI (w0 i) := by
      intro x hx i hi
      by_cases e : i = j
      · subst e; rw [pk_us, hx]
      · rw [pk_un e]; exact hT i (by omega)
    refine br_f (nI_ge (b := 6) (by omega) (by decide)) (xw_has (by omega) hpm (fun hP => ?_) (fun hP => ?_))
    · refine br_f (by decide) (And.intro hij (And.intro hij (And.intro hij ?_)))
      have ku := hk j (by omega) hP
      rw [cj, ku.1, oj.2.2.1.1, nI_add, zi_nb _ (by omega)]
      refine nm_e (nm_r (nI_1 j) (ih (j + 1) _ (by omega) (nxt _ ?_)))
      rw [hwv j (by omega), if_pos hP]
    · refine br_t rfl (And.intro hij ?_)
      have e0 : vp_nar .byte ((0 : Int32).toInt8.toInt32) = nI 0 := zi_nb 0 (by omega)
      rw [cj, e0]
      refine nm_e (nm_r (nI_1 j) (ih (j + 1) _ (by omega) (nxt _ ?_)))
      rw [hwv j (by omega), if_neg (by rw [hP]; decide)]
theorem xw_learn {post : SX → Prop} (hpm : pm < 64) (ok : xa_ok fr un mu ma wo afr aun amu amy awo) (hbm : bm < 2 ^ 24) (hH : im_H (im_g pm fr un bm) (im_cm pm mu)) (hk : vkn = 0 ∨ (vkn = 1 ∧ kn_ok pm bm fr un mu ma wo vll aku afp))
    (K : ∀ sh ll rc le (ow al ag aw : Nat → Int32) (ku fp tg : Nat → Int32), kn_ok pm bm fr un mu ma wo ll ku fp → post (nI pm, nI bm, sh, rc, le, 1, ll, afr, aun, amu, amy, awo, ow, al, ag, aw, ku, fp, tg)) :
    wpX_learn post (nI pm, nI bm, vsh, vrc, vle, vkn, vll, afr, aun, amu, amy, awo, aow, aln, agu, awb, aku, afp, atg) := by
  rcases hk with hk | ⟨hk, hq⟩
  · refine br_t hk (xw_ll hpm ok hbm (fun rc le ow al ag aw ku ks hG hu => ?_) (fun rc le ow al ag aw hN => absurd hH hN))
    refine ⟨7, xw_togive_l (w0 := im_pt (im_P pm) (im_cm pm mu) ks) rfl hpm ok hbm (fun i hi hP => ⟨hu i hi hP, ?_⟩) (fun sh rc le ow al ag aw fp tg hF => ?_) 6 0 atg (by omega) (fun i hi => by omega)⟩
    · have := (hG.2 i hi hP).1
      have := (ok i hi).2.2.2.1.2
      omega
    · exact K _ _ _ _ _ _ _ _ ku fp tg ⟨ks, hG, hu, rfl, hF⟩
  · subst hk
    exact br_f (by decide) (K _ _ _ _ _ _ _ _ _ _ _ hq)
end
end
section
/-! Y: is, covers, measure, can, fits -/
def yt_ok (pm : Nat) (yth : Nat → Int32) : Prop := ∀ j, j < 6 → yth j = nI (pm.testBit j).toNat
theorem yt_b {pm j : Nat} {yth : Nat → Int32} {A B : Prop} (h : yt_ok pm yth) (hj : j < 6) (a : pm.testBit j = false → A) (b : pm.testBit j = true → B) : (yth (nI j).toNatClampNeg = 0 → A) ∧ (¬ yth (nI j).toNatClampNeg = 0 → B) := by
  have cj : (nI j).toNatClampNeg = j := zi_cl
  rw [cj, h j hj]
  cases hp : pm.testBit j
  · exact br_t rfl (a hp)
  · exact br_f (by decide) (b hp)
theorem im_nb_s {pm s S t : Nat} {fr un : Nat → Nat} : im_nb (im_g pm fr un s) S t = (im_nb (im_g pm fr un 0) S t && !s.testBit t) := by
  rw [Bool.eq_iff_iff, Bool.and_eq_true, im_nb_i, im_nb_i, Bool.not_eq_true']
  constructor
  · rintro ⟨j, hj, hb, hg⟩
    rw [im_g_i] at hg
    exact ⟨⟨j, hj, hb, im_g_i.mpr ⟨hg.1, hg.2.1, hg.2.2.1, Nat.zero_testBit _⟩⟩, hg.2.2.2⟩
  · rintro ⟨⟨j, hj, hb, hg⟩, hs⟩
    rw [im_g_i] at hg
    exact ⟨j, hj, hb, im_g_i.mpr ⟨hg.1, hg.2.1, hg.2.2.1, hs⟩⟩
theorem im_nb_b {pm s b S t : Nat} {fr un : Nat → Nat} : (im_nb (im_g pm fr un (s ||| (2 ^ b - 1))) S t).toNat = if b ≤ t then (im_nb (im_g pm fr un s) S t).toNat else 0 := by
  rw [im_nb_s, im_nb_s (s := s), Nat.testBit_or, Nat.testBit_two_pow_sub_one]
  by_cases h : b ≤ t
  · rw [if_pos h, decide_eq_false (by omega), Bool.or_false]
  · rw [if_neg h, decide_eq_true (by omega), Bool.or_true, Bool.not_true, Bool.and_false]; rfl
section
variable {wsh wct : Int32} {yth afr aun amu amy awo yrm ywt yod ykp ybs : Nat → Int32}
variable {fr un mu ma wo : Nat → Nat} {pm s : Nat}
theorem yw_is {post : Int32 → Prop} {j : Nat} (hj : j < 6) (ht : yt_ok pm yth) (h1 : pm.testBit j = true → post 1) (h0 : pm.testBit j = false → post 0) : wpY_is post (wsh, wct, yth, afr, aun, amu, amy, awo, yrm, ywt, yod, ykp, ybs) (nI j) :=
  br_f (nI_pos (by omega)) (br_f (nI_ge (b := 6) hj (by decide)) (And.intro (vp_in_nI hj (by omega)) (yt_b ht hj h0 h1)))
theorem yw_is0 {post : Int32 → Prop} {u : SY} {x : Int32} (hx : x < 0 ∨ nI 6 ≤ x) (h0 : post 0) : wpY_is post u x := by
  by_cases h : x < 0
  · exact br_t h h0
  · exact br_f h (br_t (hx.resolve_left h) h0)
theorem yw_covers_l {post : Int32 → Prop} {S t : Nat} (ok : xa_ok fr un mu ma wo afr aun amu amy awo) (ht : yt_ok pm yth) (hs : s < 2 ^ 24) (hS : S < 64) (h24 : t < 24) (h1 : im_nb (im_g pm fr un s) S t = true → post 1) (h0 : im_nb (im_g pm fr un s) S t = false → post 0) :
    ∀ d j b, j + d = 6 → im_any j (fun i => S.testBit i && im_g pm fr un 0 i t) = b → wY_covers_5 post (nI S) (nI t) (nI s) wct yth afr aun amu amy awo yrm ywt yod ykp ybs (d + 1) (nI b.toNat) (nI j) := by
  intro d
  induction d with
  | zero =>
    intro j b hj hb
    have e : j = 6 := by omega
    subst e
    have hb : im_nb (im_g pm fr un 0) S t = b := hb
    rw [im_nb_s, hb] at h1 h0
    refine br_t (nI_le (a := 6) (by omega) (by omega)) ?_
    cases b
    · exact br_t rfl (h0 rfl)
    · refine br_f (by decide) (br_c (fun z => h1 ?_) (fun z => h0 ?_))
      · rw [zi_b0 (by omega) (by omega)] at z
        rw [z]; rfl
      · rw [zi_b0 (by omega) (by omega), Bool.not_eq_false] at z
        rw [z]; rfl
  | succ d ih =>
    intro j b hj hb
    have oj := ok j (by omega)
    have cj : (nI j).toNatClampNeg = j := zi_cl
    have hij : vp_in (nI j) 6 := vp_in_nI (by omega) (by omega)
    have nx : ∀ b', (b || (S.testBit j && im_g pm fr un 0 j t)) = b' → wY_covers_5 post (nI S) (nI t) (nI s) wct yth afr aun amu amy awo yrm ywt yod ykp ybs (d + 1) (nI b'.toNat) (nI (j + 1)) := by
      intro b' e
      refine ih (j + 1) b' (by omega) ?_
      show (im_any j _ || _) = b'
      rw [hb]; exact e
    refine br_f (nI_ge (b := 6) (by omega) (by decide)) ?_
    cases b
    · refine br_t rfl (br_c (fun z => ?_) (fun z => ?_))
      · rw [zi_b1 (by omega) (by omega)] at z
        refine And.intro hij (yt_b ht (by omega) (fun hp => nm_r (nI_1 j) (nx false ?_)) (fun hp => And.intro hij ?_))
        · rw [z]; unfold im_g; rw [hp]; rfl
        · rw [cj, oj.1.1]
          refine br_c (fun y => nm_r (nI_1 j) (nx false ?_)) (fun y => And.intro hij ?_)
          · rw [nI_ltI (by omega) (by omega)] at y
            rw [z, (im_g_f hp).mpr (Or.inl y)]; rfl
          · rw [oj.2.1.1]
            rw [nI_ltI (by omega) (by omega)] at y
            refine br_c (fun x => nm_r (nI_1 j) (nx false ?_)) (fun x => nm_r (nI_1 j) (nx true ?_))
            · rw [nI_leI (by omega) (by omega)] at x
              rw [z, (im_g_f hp).mpr (Or.inr (Or.inl x))]; rfl
            · rw [nI_leI (by omega) (by omega)] at x
              rw [z, im_g_i.mpr ⟨hp, by omega, by omega, Nat.zero_testBit _⟩]; rfl
      · rw [zi_b1 (by omega) (by omega), Bool.not_eq_true] at z
        exact nm_r (nI_1 j) (nx false (by rw [z]; rfl))
    · exact br_f (by decide) (nm_r (nI_1 j) (nx true rfl))
theorem yw_covers {post : Int32 → Prop} {S t : Nat} (ok : xa_ok fr un mu ma wo afr aun amu amy awo) (ht : yt_ok pm yth) (hs : s < 2 ^ 24) (hS : S < 64) (h24 : t < 24) (h1 : im_nb (im_g pm fr un s) S t = true → post 1) (h0 : im_nb (im_g pm fr un s) S t = false → post 0) : wpY_covers post (nI s, wct, yth, afr, aun, amu, amy, awo, yrm, ywt, yod, ykp, ybs) (nI S) (nI t) :=
  ⟨7, yw_covers_l ok ht hs hS h24 h1 h0 6 0 false (by omega) rfl⟩
theorem yw_meas_in {post : SY → Prop} {J : Int32 → (Nat → Int32) → (Nat → Int32) → (Nat → Int32) → (Nat → Int32) → (Nat → Int32) → (Nat → Int32) → (Nat → Int32) → (Nat → Int32) → (Nat → Int32) → (Nat → Int32) → (Nat → Int32) → Prop} {S b : Nat} {x1 : Int32} (ok : xa_ok fr un mu ma wo afr aun amu amy awo) (ht : yt_ok pm yth) (hs : s < 2 ^ 24) (hS : S < 64) :
    ∀ d t (rm : Nat → Int32), t + d = 24 → b ≤ t → rm S = nI (im_s t (fun y => if b ≤ y then (im_nb (im_g pm fr un s) S y).toNat else 0)) →
    (∀ rm' : Nat → Int32, rm' S = nI (im_s 24 (fun y => if b ≤ y then (im_nb (im_g pm fr un s) S y).toNat else 0)) → (∀ i, i ≠ S → rm' i = rm i) → J (nI (S + 1)) yth afr aun amu amy awo rm' ywt yod ykp ybs) →
    wY_measure_17 post J x1 (nI S) (nI s) wct (d + 1) (nI t) yth afr aun amu amy awo rm ywt yod ykp ybs := by
  intro d
  induction d with
  | zero =>
    intro t rm hd hb hr K
    have e : t = 24 := by omega
    subst e
    exact br_t (nI_le (a := 24) (by omega) (by omega)) (nm_r (nI_1 S) (K rm hr (fun _ _ => rfl)))
  | succ d ih =>
    intro t rm hd hb hr K
    have cS : (nI S).toNatClampNeg = S := zi_cl
    have hiS : vp_in (nI S) 64 := vp_in_nI hS (by omega)
    have nx : ∀ x : Int32, x = nI (im_s (t + 1) (fun y => if b ≤ y then (im_nb (im_g pm fr un s) S y).toNat else 0)) → wY_measure_17 post J x1 (nI S) (nI s) wct (d + 1) (nI (t + 1)) yth afr aun amu amy awo (upd rm S x) ywt yod ykp ybs := by
      intro x hx
      refine ih (t + 1) _ (by omega) (by omega) (by rw [pk_us]; exact hx) (fun rm' h1 h2 => K rm' h1 (fun i hi => ?_))
      rw [h2 i hi, pk_un hi]
    have es : im_s (t + 1) (fun y => if b ≤ y then (im_nb (im_g pm fr un s) S y).toNat else 0) = im_s t (fun y => if b ≤ y then (im_nb (im_g pm fr un s) S y).toNat else 0) + (im_nb (im_g pm fr un s) S t).toNat := by
      show im_s t _ + (if b ≤ t then _ else 0) = _
      rw [if_pos hb]
    refine br_f (nI_ge (b := 24) (by omega) (by decide)) (And.intro hiS (yw_covers ok ht hs hS (by omega) (fun z => ?_) (fun z => ?_)))
    · refine br_f (by decide) (And.intro hiS ?_)
      rw [cS, hr, nI_1]
      refine nm_e (nm_r (nI_1 t) (nx _ ?_))
      rw [es, z]; rfl
    · refine br_t rfl (And.intro hiS ?_)
      rw [cS, hr, Int32.add_zero]
      refine nm_e (nm_r (nI_1 t) (nx _ ?_))
      rw [es, z]; rfl
theorem yw_meas_out {post : SY → Prop} {b : Nat} (ok : xa_ok fr un mu ma wo afr aun amu amy awo) (ht : yt_ok pm yth) (hs : s < 2 ^ 24) (hb : b ≤ 24)
    (K : ∀ rm : Nat → Int32, (∀ S, S < 64 → rm S = nI (im_rm (im_g pm fr un (s ||| (2 ^ b - 1))) S)) → post (nI s, wct, yth, afr, aun, amu, amy, awo, rm, ywt, yod, ykp, ybs)) :
    ∀ d S (rm : Nat → Int32), S + d = 64 → (∀ i, i < S → rm i = nI (im_rm (im_g pm fr un (s ||| (2 ^ b - 1))) i)) → wY_measure_2 post (nI b) (nI s) wct (d + 1) (nI S) yth afr aun amu amy awo rm ywt yod ykp ybs := by
  intro d
  induction d with
  | zero =>
    intro S rm hS hr
    have e : S = 64 := by omega
    subst e
    exact br_t (nI_le (a := 64) (by omega) (by omega)) (K rm hr)
  | succ d ih =>
    intro S rm hS hr
    have cS : (nI S).toNatClampNeg = S := zi_cl
    have hiS : vp_in (nI S) 64 := vp_in_nI (by omega) (by omega)
    refine br_f (nI_ge (b := 64) (by omega) (by decide)) (And.intro hiS ?_)
    rw [cS]
    refine nm_e ⟨24 - b + 1, yw_meas_in (b := b) ok ht hs (by omega) (24 - b) b _ (by omega) (Nat.le_refl _) ?_ (fun rm' h1 h2 => ih (S + 1) rm' (by omega) (fun i hi => ?_))⟩
    · rw [pk_us, im_s_0 (fun y hy => if_neg (by omega))]; rfl
    · by_cases e : i = S
      · subst e
        rw [h1]
        refine congrArg nI (im_s_c fun y _ => ?_)
        rw [im_nb_b]
      · rw [h2 i e, pk_un e]; exact hr i (by omega)
theorem yw_meas {post : SY → Prop} {b : Nat} (ok : xa_ok fr un mu ma wo afr aun amu amy awo) (ht : yt_ok pm yth) (hs : s < 2 ^ 24) (hb : b ≤ 24)
    (K : ∀ rm : Nat → Int32, (∀ S, S < 64 → rm S = nI (im_rm (im_g pm fr un (s ||| (2 ^ b - 1))) S)) → post (nI s, wct, yth, afr, aun, amu, amy, awo, rm, ywt, yod, ykp, ybs)) : wpY_measure post (nI s, wct, yth, afr, aun, amu, amy, awo, yrm, ywt, yod, ykp, ybs) (nI b) :=
  ⟨65, yw_meas_out ok ht hs hb K 64 0 yrm (by omega) (fun i hi => by omega)⟩
theorem yw_can_in {post : Int32 → Prop} {J : Int32 → Int32 → Prop} {g : Nat → Nat → Bool} {c : Nat → Nat} {S : Nat} (ht : yt_ok pm yth) (hS : S < 64) (hr : yrm S = nI (im_rm g S)) (hc : ∀ j, j < 6 → c j < 1000 ∧ (pm.testBit j = true → ywt j = nI (c j)) ∧ (pm.testBit j = false → c j = 0))
    (K1 : im_dm c S ≤ im_rm g S → J 1 (nI (S + 1))) (K0 : im_rm g S < im_dm c S → J 0 (nI (S + 1))) :
    ∀ d j, j + d = 6 → wY_can_19 post J (nI S) wsh wct yth afr aun amu amy awo yrm ywt yod ykp ybs (d + 1) (nI (im_s j (fun i => if S.testBit i = true then c i else 0))) (nI j) := by
  have cS : (nI S).toNatClampNeg = S := zi_cl
  have hrm : im_rm g S ≤ 24 := by
    have : im_rm g S ≤ im_s 24 (fun _ => 1) := im_s_le fun t _ => Bool.toNat_le _
    rw [im_s_k] at this
    omega
  have hdm : im_dm c S ≤ 6000 := by
    have : im_dm c S ≤ im_s 6 (fun _ => 1000) := im_s_le fun j hj => by
      have := (hc j hj).1
      split <;> omega
    rw [im_s_k] at this
    omega
  intro d
  induction d with
  | zero =>
    intro j hj
    have e : j = 6 := by omega
    subst e
    refine br_t (nI_le (a := 6) (by omega) (by omega)) (And.intro (vp_in_nI hS (by omega)) ?_)
    rw [cS, hr]
    refine br_c (fun z => nm_r (nI_1 S) (K0 ?_)) (fun z => nm_r (nI_1 S) (K1 ?_))
    · exact (nI_ltI (by omega) (show im_dm c S < 2 ^ 31 by omega)).mp z
    · have := fun y => z ((nI_ltI (by omega) (show im_dm c S < 2 ^ 31 by omega)).mpr y)
      exact Nat.le_of_not_lt this
  | succ d ih =>
    intro j hj
    have cj : (nI j).toNatClampNeg = j := zi_cl
    have hij : vp_in (nI j) 6 := vp_in_nI (by omega) (by omega)
    have es : im_s (j + 1) (fun i => if S.testBit i = true then c i else 0) = im_s j (fun i => if S.testBit i = true then c i else 0) + (if S.testBit j = true then c j else 0) := rfl
    have nx := ih (j + 1) (by omega)
    rw [es] at nx
    refine br_f (nI_ge (b := 6) (by omega) (by decide)) (br_c (fun z => ?_) (fun z => ?_))
    · rw [zi_b1 (by omega) (by omega)] at z
      rw [if_pos z] at nx
      refine And.intro hij (yt_b ht (by omega) (fun hp => ?_) (fun hp => And.intro hij ?_))
      · rw [(hc j (by omega)).2.2 hp] at nx
        rw [Int32.add_zero]
        exact nm_e (nm_r (nI_1 j) nx)
      · rw [cj, (hc j (by omega)).2.1 hp, nI_add]
        exact nm_e (nm_r (nI_1 j) nx)
    · rw [zi_b1 (by omega) (by omega)] at z
      rw [if_neg z] at nx
      rw [Int32.add_zero]
      exact nm_e (nm_r (nI_1 j) nx)
theorem yw_can_out {post : Int32 → Prop} {g : Nat → Nat → Bool} {c : Nat → Nat} (ht : yt_ok pm yth) (hr : ∀ S, S < 64 → yrm S = nI (im_rm g S)) (hc : ∀ j, j < 6 → c j < 1000 ∧ (pm.testBit j = true → ywt j = nI (c j)) ∧ (pm.testBit j = false → c j = 0))
    (K1 : im_H g c → post 1) (K0 : ¬ im_H g c → post 0) :
    ∀ d S, S + d = 64 → (∀ T, T < S → im_dm c T ≤ im_rm g T) → wY_can_4 post wsh wct yth afr aun amu amy awo yrm ywt yod ykp ybs (d + 1) 1 (nI S) := by
  intro d
  induction d with
  | zero =>
    intro S hS hT
    have e : S = 64 := by omega
    subst e
    exact br_t (nI_le (a := 64) (by omega) (by omega)) ⟨narrow_b1, K1 hT⟩
  | succ d ih =>
    intro S hS hT
    refine br_f (nI_ge (b := 64) (by omega) (by decide)) (br_f (by decide) ⟨7, ?_⟩)
    refine yw_can_in ht (by omega) (hr S (by omega)) hc (fun z => ?_) (fun z => ?_) 6 0 (by omega)
    · refine ih (S + 1) (by omega) (fun T h => ?_)
      rcases Nat.lt_or_ge T S with y | y
      · exact hT T y
      · have e : T = S := by omega
        subst e; exact z
    · have n : ¬ im_H g c := fun H => by
        have := H S (by omega)
        omega
      exact br_c (fun _ => ⟨narrow_b0, K0 n⟩) (fun _ => br_t rfl ⟨narrow_b0, K0 n⟩)
theorem yw_can {post : Int32 → Prop} {g : Nat → Nat → Bool} {c : Nat → Nat} (ht : yt_ok pm yth) (hr : ∀ S, S < 64 → yrm S = nI (im_rm g S)) (hc : ∀ j, j < 6 → c j < 1000 ∧ (pm.testBit j = true → ywt j = nI (c j)) ∧ (pm.testBit j = false → c j = 0))
    (K1 : im_H g c → post 1) (K0 : ¬ im_H g c → post 0) : wpY_can post (wsh, wct, yth, afr, aun, amu, amy, awo, yrm, ywt, yod, ykp, ybs) :=
  ⟨64, yw_can_out ht hr hc K1 K0 63 1 (by omega) (fun T hT => by
    have e : T = 0 := by omega
    subst e
    have : im_dm c 0 = 0 := im_s_0 fun j _ => by rw [Nat.zero_testBit, if_neg (by decide)]
    omega)⟩
theorem yw_fits_l {post : Int32 → SY → Prop} (ok : xa_ok fr un mu ma wo afr aun amu amy awo) (ht : yt_ok pm yth) (hr : ∀ S, S < 64 → yrm S = nI (im_rm (im_g pm fr un s) S))
    (K1 : ∀ wt : Nat → Int32, im_H (im_g pm fr un s) (im_cm pm mu) → post 1 (wsh, wct, yth, afr, aun, amu, amy, awo, yrm, wt, yod, ykp, ybs)) (K0 : ∀ wt : Nat → Int32, ¬ im_H (im_g pm fr un s) (im_cm pm mu) → post 0 (wsh, wct, yth, afr, aun, amu, amy, awo, yrm, wt, yod, ykp, ybs)) :
    ∀ d j (wt : Nat → Int32), j + d = 6 → (∀ i, i < j → wt i = nI (mu i)) → wY_fits_7 post wsh wct (d + 1) (nI j) yth afr aun amu amy awo yrm wt yod ykp ybs := by
  intro d
  induction d with
  | zero =>
    intro j wt hj hw
    have e : j = 6 := by omega
    subst e
    refine br_t (nI_le (a := 6) (by omega) (by omega)) (yw_can ht hr (c := im_cm pm mu) (fun i hi => ⟨?_, fun hp => ?_, fun hp => ?_⟩) (fun H => ⟨narrow_b1, K1 wt H⟩) (fun H => ⟨narrow_b0, K0 wt H⟩))
    · have := (ok i hi).2.2.1.2
      unfold im_cm
      split <;> omega
    · rw [hw i hi, im_cm, if_pos hp]
    · rw [im_cm, if_neg (by rw [hp]; decide)]
  | succ d ih =>
    intro j wt hj hw
    have oj := ok j (by omega)
    have cj : (nI j).toNatClampNeg = j := zi_cl
    have hij : vp_in (nI j) 6 := vp_in_nI (by omega) (by omega)
    refine br_f (nI_ge (b := 6) (by omega) (by decide)) (And.intro hij (And.intro hij ?_))
    rw [cj, oj.2.2.1.1]
    refine nm_e (nm_r (nI_1 j) (ih (j + 1) _ (by omega) (fun i hi => ?_)))
    by_cases e : i = j
    · subst e; rw [pk_us]
    · rw [pk_un e]; exact hw i (by omega)
theorem yw_fits {post : Int32 → SY → Prop} (ok : xa_ok fr un mu ma wo afr aun amu amy awo) (ht : yt_ok pm yth) (hs : s < 2 ^ 24)
    (K1 : ∀ rm wt : Nat → Int32, im_H (im_g pm fr un s) (im_cm pm mu) → post 1 (nI s, wct, yth, afr, aun, amu, amy, awo, rm, wt, yod, ykp, ybs)) (K0 : ∀ rm wt : Nat → Int32, ¬ im_H (im_g pm fr un s) (im_cm pm mu) → post 0 (nI s, wct, yth, afr, aun, amu, amy, awo, rm, wt, yod, ykp, ybs)) : wpY_fits post (nI s, wct, yth, afr, aun, amu, amy, awo, yrm, ywt, yod, ykp, ybs) := by
  unfold wpY_fits
  refine yw_meas (b := 0) ok ht hs (by omega) (fun rm hr => ⟨7, ?_⟩)
  have e : s ||| (2 ^ 0 - 1) = s := by
    show s ||| 0 = s
    exact Nat.or_zero s
  rw [e] at hr
  exact yw_fits_l ok ht hr (K1 rm) (K0 rm) 6 0 ywt (by omega) (fun i hi => by omega)
end
end
section
/-! Y: before, sort, next, lost, possible, keepBest -/
def zi_p (m : Nat) : Int32 := if m = 0 then -1 else nI (m - 1)
theorem zi_p0 : zi_p 0 = -1 := rfl
theorem zi_ps (m : Nat) : zi_p (m + 1) = nI m := rfl
theorem zi_pm (m : Nat) : nI m + (-1) = zi_p m := by
  cases m with
  | zero => decide
  | succ m => exact pk_m1 m
theorem zi_pd (m : Nat) : nI m - 1 = zi_p m := by
  cases m with
  | zero => decide
  | succ m => exact nI_pred m
def kp_ok (pm : Nat) (ma : Nat → Nat) (kp : Nat → Int32) (k : Nat → Nat) : Prop := ∀ j, j < 6 → pm.testBit j = true → kp j = nI (k j) ∧ k j ≤ ma j
theorem kp_u {pm : Nat} {ma k : Nat → Nat} {kp : Nat → Int32} {j x : Nat} (h : kp_ok pm ma kp k) (hx : x ≤ ma j) : kp_ok pm ma (upd kp j (nI x)) (im_u k j x) := by
  intro i hi hp
  by_cases e : i = j
  · subst e; rw [pk_us, im_us]; exact ⟨rfl, hx⟩
  · rw [pk_un e, im_un' e]; exact h i hi hp
section
variable {wsh wct : Int32} {yth afr aun amu amy awo yrm ywt yod ykp ybs : Nat → Int32}
variable {fr un mu ma wo : Nat → Nat} {pm s : Nat}
theorem yw_before {post : Int32 → Prop} {i j : Nat} (ok : xa_ok fr un mu ma wo afr aun amu amy awo) (hi : i < 6) (hj : j < 6) (h1 : im_bf wo i j = true → post 1) (h0 : im_bf wo i j = false → post 0) : wpY_before post (wsh, wct, yth, afr, aun, amu, amy, awo, yrm, ywt, yod, ykp, ybs) (nI i) (nI j) := by
  have oi := (ok i hi).2.2.2.2
  have oj := (ok j hj).2.2.2.2
  have ci : (nI i).toNatClampNeg = i := zi_cl
  have cj : (nI j).toNatClampNeg = j := zi_cl
  have hii : vp_in (nI i) 6 := vp_in_nI hi (by omega)
  have hij : vp_in (nI j) 6 := vp_in_nI hj (by omega)
  refine And.intro hii (And.intro hij ?_)
  rw [ci, cj, oi.1, oj.1]
  refine br_c (fun z => h1 ?_) (fun z => And.intro hii (And.intro hij (br_c (fun y => br_c (fun x => h0 ?_) (fun x => h1 ?_)) (fun y => h0 ?_))))
  · rw [nI_ltI (by omega) (by omega)] at z
    exact im_bf_i.mpr (Or.inl z)
  · rw [nI_ltI (by omega) (by omega)] at z
    rw [nI_eq (by omega) (by omega)] at y
    rw [nI_leI (by omega) (by omega)] at x
    exact im_bf_f.mpr (by omega)
  · rw [nI_ltI (by omega) (by omega)] at z
    rw [nI_eq (by omega) (by omega)] at y
    rw [nI_leI (by omega) (by omega)] at x
    exact im_bf_i.mpr (by omega)
  · rw [nI_ltI (by omega) (by omega)] at z
    rw [nI_eq (by omega) (by omega)] at y
    exact im_bf_f.mpr (by omega)
theorem yw_sort_in {post : SY → Prop} {J : Int32 → Int32 → (Nat → Int32) → (Nat → Int32) → (Nat → Int32) → (Nat → Int32) → (Nat → Int32) → (Nat → Int32) → (Nat → Int32) → (Nat → Int32) → (Nat → Int32) → (Nat → Int32) → (Nat → Int32) → Prop} {j : Nat} (ok : xa_ok fr un mu ma wo afr aun amu amy awo) (ht : yt_ok pm yth) (hj : j < 6)
    (K1 : pm.testBit j = true → J (nI (j + 1)) (wct + 1) yth afr aun amu amy awo yrm ywt (upd yod (im_pl (im_P pm) wo j) (nI j)) ykp ybs) (K0 : pm.testBit j = false → J (nI (j + 1)) wct yth afr aun amu amy awo yrm ywt yod ykp ybs) :
    ∀ d i, i + d = 6 → wY_sort_17 post J (nI j) wsh wct yth afr aun amu amy awo yrm ywt yod ykp ybs (d + 1) (nI (im_s i (fun l => (im_P pm l && (!(l == j) && im_bf wo l j)).toNat))) (nI i) := by
  intro d
  induction d with
  | zero =>
    intro i hi
    have e : i = 6 := by omega
    subst e
    refine br_t (nI_le (a := 6) (by omega) (by omega)) (And.intro (vp_in_nI hj (by omega)) (yt_b ht hj (fun hp => nm_r (nI_1 j) (K0 hp)) (fun hp => ?_)))
    have hl : im_pl (im_P pm) wo j < 6 := by
      have a := im_pl_n (P := im_P pm) (wo := wo) hj hp
      have b : im_n (im_P pm) ≤ im_s 6 (fun _ => 1) := im_s_le fun i _ => Bool.toNat_le _
      rw [im_s_k] at b
      omega
    have cl : (nI (im_s 6 (fun l => (im_P pm l && (!(l == j) && im_bf wo l j)).toNat))).toNatClampNeg = im_pl (im_P pm) wo j := nI_clamp (show im_pl (im_P pm) wo j < 2 ^ 31 by omega)
    refine And.intro (vp_in_nI (n := im_pl (im_P pm) wo j) hl (by omega)) ?_
    rw [cl]
    exact nm_e (nm_e (nm_r (nI_1 j) (K1 hp)))
  | succ d ih =>
    intro i hi
    have hii : vp_in (nI i) 6 := vp_in_nI (by omega) (by omega)
    have es : im_s (i + 1) (fun l => (im_P pm l && (!(l == j) && im_bf wo l j)).toNat) = im_s i (fun l => (im_P pm l && (!(l == j) && im_bf wo l j)).toNat) + (im_P pm i && (!(i == j) && im_bf wo i j)).toNat := rfl
    have nx := ih (i + 1) (by omega)
    rw [es] at nx
    refine br_f (nI_ge (b := 6) (by omega) (by decide)) (And.intro hii (yt_b ht (by omega) (fun hp => ?_) (fun hp => ?_)))
    · have e : (im_P pm i && (!(i == j) && im_bf wo i j)).toNat = 0 := by
        unfold im_P; rw [hp]; rfl
      rw [e] at nx
      rw [Int32.add_zero]
      exact nm_e (nm_r (nI_1 i) nx)
    · by_cases e : i = j
      · subst e
        have e : (im_P pm i && (!(i == i) && im_bf wo i i)).toNat = 0 := by simp
        rw [e] at nx
        rw [Int32.add_zero]
        exact br_t rfl (nm_e (nm_r (nI_1 i) nx))
      · refine br_f (fun z => e ((nI_eq (by omega) (by omega)).mp z)) (yw_before ok (by omega) hj (fun hb => ?_) (fun hb => ?_))
        · have e2 : (im_P pm i && (!(i == j) && im_bf wo i j)).toNat = 1 := by
            unfold im_P; rw [hp, hb, show (i == j) = false by rw [beq_eq_false_iff_ne]; exact e]; rfl
          rw [e2] at nx
          exact br_f (by decide) (nm_r (nI_1 _) (nm_r (nI_1 i) nx))
        · have e2 : (im_P pm i && (!(i == j) && im_bf wo i j)).toNat = 0 := by
            rw [hb, Bool.and_false, Bool.and_false]; rfl
          rw [e2] at nx
          rw [Int32.add_zero]
          exact br_t rfl (nm_e (nm_r (nI_1 i) nx))
theorem yw_sort_out {post : SY → Prop} (ok : xa_ok fr un mu ma wo afr aun amu amy awo) (ht : yt_ok pm yth)
    (K : ∀ od : Nat → Int32, (∀ j, j < 6 → pm.testBit j = true → od (im_pl (im_P pm) wo j) = nI j) → post (wsh, nI (im_n (im_P pm)), yth, afr, aun, amu, amy, awo, yrm, ywt, od, ykp, ybs)) :
    ∀ d j (od : Nat → Int32), j + d = 6 → (∀ i, i < j → pm.testBit i = true → od (im_pl (im_P pm) wo i) = nI i) → wY_sort_7 post wsh (d + 1) (nI j) (nI (im_s j (fun i => (im_P pm i).toNat))) yth afr aun amu amy awo yrm ywt od ykp ybs := by
  intro d
  induction d with
  | zero =>
    intro j od hj ho
    have e : j = 6 := by omega
    subst e
    exact br_t (nI_le (a := 6) (by omega) (by omega)) (K od ho)
  | succ d ih =>
    intro j od hj ho
    have es : im_s (j + 1) (fun i => (im_P pm i).toNat) = im_s j (fun i => (im_P pm i).toNat) + (pm.testBit j).toNat := rfl
    refine br_f (nI_ge (b := 6) (by omega) (by decide)) ⟨7, yw_sort_in ok ht (by omega) (fun hp => ?_) (fun hp => ?_) 6 0 (by omega)⟩
    · have := ih (j + 1) (upd od (im_pl (im_P pm) wo j) (nI j)) (by omega) (fun i hi hq => ?_)
      · rw [es, hp] at this
        rw [nI_1]
        exact this
      · by_cases e : i = j
        · subst e; exact pk_us
        · rw [pk_un]
          · exact ho i (by omega) hq
          · intro z; exact e (im_pl_inj (P := im_P pm) (by omega) (by omega) hq hp z)
    · have := ih (j + 1) od (by omega) (fun i hi hq => ?_)
      · rw [es, hp] at this
        exact this
      · rcases Nat.lt_or_ge i j with z | z
        · exact ho i z hq
        · have e : i = j := by omega
          subst e; rw [hp] at hq; cases hq
theorem yw_sort {post : SY → Prop} (ok : xa_ok fr un mu ma wo afr aun amu amy awo) (ht : yt_ok pm yth)
    (K : ∀ od : Nat → Int32, (∀ j, j < 6 → pm.testBit j = true → od (im_pl (im_P pm) wo j) = nI j) → post (wsh, nI (im_n (im_P pm)), yth, afr, aun, amu, amy, awo, yrm, ywt, od, ykp, ybs)) : wpY_sort post (wsh, wct, yth, afr, aun, amu, amy, awo, yrm, ywt, yod, ykp, ybs) :=
  ⟨7, yw_sort_out ok ht K 6 0 yod (by omega) (fun i hi => by omega)⟩
theorem yw_next_l {post : Int32 → SY → Prop} {od : Nat → Nat} (ok : xa_ok fr un mu ma wo afr aun amu amy awo) (O : im_od (im_P pm) wo od) (ho : ∀ p, p < im_n (im_P pm) → yod p = nI (od p)) :
    ∀ m (kp : Nat → Int32) k, m ≤ im_n (im_P pm) → kp_ok pm ma kp k →
    (∀ (kp' : Nat → Int32) k', kp_ok pm ma kp' k' → (∀ p, m ≤ p → p < im_n (im_P pm) → k' (od p) = k (od p)) → im_rk ma od k' m = im_rk ma od k m + 1 → post 1 (wsh, wct, yth, afr, aun, amu, amy, awo, yrm, ywt, yod, kp', ybs)) →
    (∀ (kp' : Nat → Int32), im_rk ma od k m + 1 = im_tt ma od m → post 0 (wsh, wct, yth, afr, aun, amu, amy, awo, yrm, ywt, yod, kp', ybs)) →
    wY_next_7 post wsh wct (m + 1) (zi_p m) yth afr aun amu amy awo yrm ywt yod kp ybs := by
  intro m
  induction m with
  | zero =>
    intro kp k hm hk K1 K0
    exact br_t (by decide) (K0 kp rfl)
  | succ m ih =>
    intro kp k hm hk K1 K0
    have h6 : im_n (im_P pm) ≤ 6 := by
      have b : im_n (im_P pm) ≤ im_s 6 (fun _ => 1) := im_s_le fun i _ => Bool.toNat_le _
      rw [im_s_k] at b
      omega
    have om := O.1 m (by omega)
    have oj := (ok (od m) om.1).2.2.2.1
    have kj := hk (od m) om.1 om.2.1
    have cm : (nI m).toNatClampNeg = m := zi_cl
    have cj : (nI (od m)).toNatClampNeg = od m := zi_cl
    have hij : vp_in (nI (od m)) 6 := vp_in_nI om.1 (by omega)
    have inj : ∀ p, p < im_n (im_P pm) → p ≠ m → od p ≠ od m := by
      intro p hp hne e
      have a := (O.1 p hp).2.2
      rw [e, om.2.2] at a
      omega
    have er : ∀ q, im_rk ma od q (m + 1) = im_rk ma od q m * (ma (od m) + 1) + (ma (od m) - q (od m)) := fun _ => rfl
    have et : im_tt ma od (m + 1) = im_tt ma od m * (ma (od m) + 1) := rfl
    rw [zi_ps]
    refine br_f (nI_pos (by omega)) (And.intro (vp_in_nI (by omega) (by omega)) ?_)
    rw [cm, ho m (by omega)]
    refine nm_e (And.intro hij ?_)
    rw [cj, kj.1]
    rcases Nat.eq_zero_or_pos (k (od m)) with z | z
    · refine br_t (by rw [z]; decide) (And.intro hij (And.intro hij ?_))
      rw [oj.1]
      refine nm_e (nm_r (zi_pm m) (ih _ (im_u k (od m) (ma (od m))) (by omega) (kp_u hk (Nat.le_refl _)) (fun kp' k' hk' hp hr => ?_) (fun kp' hr => ?_)))
      · have e0 : im_rk ma od (im_u k (od m) (ma (od m))) m = im_rk ma od k m := im_rk_c fun p hp => im_un' (inj p (by omega) (by omega))
        have e1 : k' (od m) = ma (od m) := by rw [hp m (Nat.le_refl _) (by omega), im_us]
        refine K1 kp' k' hk' (fun p h1 h2 => ?_) ?_
        · rw [hp p (by omega) h2, im_un' (inj p h2 (by omega))]
        · rw [er, er, e1, z, hr, e0, Nat.add_mul]
          omega
      · have e0 : im_rk ma od (im_u k (od m) (ma (od m))) m = im_rk ma od k m := im_rk_c fun p hp => im_un' (inj p (by omega) (by omega))
        refine K0 kp' ?_
        rw [er, et, z, ← hr, e0, Nat.add_mul]
        omega
    · refine br_f (nI_nle z (by omega)) (And.intro hij (And.intro hij ?_))
      have e1 : nI (k (od m)) - 1 = nI (k (od m) - 1) := pk_sub (b := 1) z
      rw [e1]
      refine nm_e (K1 _ (im_u k (od m) (k (od m) - 1)) (kp_u hk (by omega)) (fun p h1 h2 => im_un' (inj p h2 (by omega))) ?_)
      have e0 : im_rk ma od (im_u k (od m) (k (od m) - 1)) m = im_rk ma od k m := im_rk_c fun p hp => im_un' (inj p (by omega) (by omega))
      rw [er, er, e0, im_us]
      omega
theorem yw_next {post : Int32 → SY → Prop} {od k : Nat → Nat} (ok : xa_ok fr un mu ma wo afr aun amu amy awo) (O : im_od (im_P pm) wo od) (ho : ∀ p, p < im_n (im_P pm) → yod p = nI (od p)) (hk : kp_ok pm ma ykp k)
    (K1 : ∀ (kp' : Nat → Int32) k', kp_ok pm ma kp' k' → im_rk ma od k' (im_n (im_P pm)) = im_rk ma od k (im_n (im_P pm)) + 1 → post 1 (wsh, nI (im_n (im_P pm)), yth, afr, aun, amu, amy, awo, yrm, ywt, yod, kp', ybs))
    (K0 : ∀ (kp' : Nat → Int32), im_rk ma od k (im_n (im_P pm)) + 1 = im_tt ma od (im_n (im_P pm)) → post 0 (wsh, nI (im_n (im_P pm)), yth, afr, aun, amu, amy, awo, yrm, ywt, yod, kp', ybs)) :
    wpY_next post (wsh, nI (im_n (im_P pm)), yth, afr, aun, amu, amy, awo, yrm, ywt, yod, ykp, ybs) :=
  nm_r (zi_pd _) ⟨_, yw_next_l ok O ho (im_n (im_P pm)) ykp k (Nat.le_refl _) hk (fun kp' k' a _ b => K1 kp' k' a b) K0⟩
theorem yw_lost_l {post : Int32 → Prop} {k : Nat → Nat} (ok : xa_ok fr un mu ma wo afr aun amu amy awo) (ht : yt_ok pm yth) (hk : kp_ok pm ma ykp k) (K : post (nI (im_ls (im_P pm) ma wo k))) :
    ∀ d j, j + d = 6 → wY_lost_4 post wsh wct yth afr aun amu amy awo yrm ywt yod ykp ybs (d + 1) (nI (im_s j (fun i => if im_P pm i = true then wo i * (ma i - k i) else 0))) (nI j) := by
  intro d
  induction d with
  | zero =>
    intro j hj
    have e : j = 6 := by omega
    subst e
    exact br_t (nI_le (a := 6) (by omega) (by omega)) K
  | succ d ih =>
    intro j hj
    have oj := (ok j (by omega)).2.2.2
    have cj : (nI j).toNatClampNeg = j := zi_cl
    have hij : vp_in (nI j) 6 := vp_in_nI (by omega) (by omega)
    have es : im_s (j + 1) (fun i => if im_P pm i = true then wo i * (ma i - k i) else 0) = im_s j (fun i => if im_P pm i = true then wo i * (ma i - k i) else 0) + (if pm.testBit j = true then wo j * (ma j - k j) else 0) := rfl
    have nx := ih (j + 1) (by omega)
    rw [es] at nx
    refine br_f (nI_ge (b := 6) (by omega) (by decide)) (And.intro hij (yt_b ht (by omega) (fun hp => ?_) (fun hp => ?_)))
    · rw [if_neg (by rw [hp]; decide)] at nx
      rw [Int32.add_zero]
      exact nm_e (nm_r (nI_1 j) nx)
    · rw [if_pos hp] at nx
      have kj := hk j (by omega) hp
      refine And.intro hij (And.intro hij (And.intro hij ?_))
      rw [cj, oj.1.1, oj.2.1, kj.1, pk_sub kj.2, pk_mul, nI_add]
      exact nm_e (nm_r (nI_1 j) nx)
theorem yw_lost {post : Int32 → Prop} {k : Nat → Nat} (ok : xa_ok fr un mu ma wo afr aun amu amy awo) (ht : yt_ok pm yth) (hk : kp_ok pm ma ykp k) (K : post (nI (im_ls (im_P pm) ma wo k))) : wpY_lost post (wsh, wct, yth, afr, aun, amu, amy, awo, yrm, ywt, yod, ykp, ybs) :=
  ⟨7, yw_lost_l ok ht hk K 6 0 (by omega)⟩
theorem yw_poss_l {post : Int32 → SY → Prop} {k : Nat → Nat} {g : Nat → Nat → Bool} (ok : xa_ok fr un mu ma wo afr aun amu amy awo) (ht : yt_ok pm yth) (hk : kp_ok pm ma ykp k) (hr : ∀ S, S < 64 → yrm S = nI (im_rm g S))
    (K1 : ∀ wt : Nat → Int32, im_H g (im_pt (im_P pm) (im_cm pm mu) k) → post 1 (wsh, wct, yth, afr, aun, amu, amy, awo, yrm, wt, yod, ykp, ybs)) (K0 : ∀ wt : Nat → Int32, ¬ im_H g (im_pt (im_P pm) (im_cm pm mu) k) → post 0 (wsh, wct, yth, afr, aun, amu, amy, awo, yrm, wt, yod, ykp, ybs)) :
    ∀ d j (wt : Nat → Int32), j + d = 6 → (∀ i, i < j → pm.testBit i = true → wt i = nI (mu i + k i)) → wY_possible_2 post wsh wct (d + 1) (nI j) yth afr aun amu amy awo yrm wt yod ykp ybs := by
  intro d
  induction d with
  | zero =>
    intro j wt hj hw
    have e : j = 6 := by omega
    subst e
    refine br_t (nI_le (a := 6) (by omega) (by omega)) (yw_can ht hr (c := im_pt (im_P pm) (im_cm pm mu) k) (fun i hi => ⟨?_, fun hp => ?_, fun hp => ?_⟩) (fun H => ⟨narrow_b1, K1 wt H⟩) (fun H => ⟨narrow_b0, K0 wt H⟩))
    · have a := (ok i hi).2.2.1.2
      have b := (ok i hi).2.2.2.1.2
      unfold im_pt im_cm im_P
      by_cases hp : pm.testBit i = true
      · have := (hk i hi hp).2
        rw [if_pos hp, if_pos hp]; omega
      · rw [if_neg hp, if_neg hp]; omega
    · unfold im_pt im_cm im_P
      rw [hw i hi hp, if_pos hp, if_pos hp]
    · unfold im_pt im_cm im_P
      rw [hp, if_neg (by decide), if_neg (by decide)]
  | succ d ih =>
    intro j wt hj hw
    have oj := ok j (by omega)
    have cj : (nI j).toNatClampNeg = j := zi_cl
    have hij : vp_in (nI j) 6 := vp_in_nI (by omega) (by omega)
    refine br_f (nI_ge (b := 6) (by omega) (by decide)) (And.intro hij (And.intro hij (And.intro hij ?_)))
    rw [cj, oj.2.2.1.1]
    refine nm_e (nm_r (nI_1 j) (ih (j + 1) _ (by omega) (fun i hi hp => ?_)))
    by_cases e : i = j
    · subst e; rw [pk_us, (hk i (by omega) hp).1, nI_add]
    · rw [pk_un e]; exact hw i (by omega) hp
theorem yw_poss {post : Int32 → SY → Prop} {k : Nat → Nat} {g : Nat → Nat → Bool} (ok : xa_ok fr un mu ma wo afr aun amu amy awo) (ht : yt_ok pm yth) (hk : kp_ok pm ma ykp k) (hr : ∀ S, S < 64 → yrm S = nI (im_rm g S))
    (K1 : ∀ wt : Nat → Int32, im_H g (im_pt (im_P pm) (im_cm pm mu) k) → post 1 (wsh, wct, yth, afr, aun, amu, amy, awo, yrm, wt, yod, ykp, ybs)) (K0 : ∀ wt : Nat → Int32, ¬ im_H g (im_pt (im_P pm) (im_cm pm mu) k) → post 0 (wsh, wct, yth, afr, aun, amu, amy, awo, yrm, wt, yod, ykp, ybs)) : wpY_possible post (wsh, wct, yth, afr, aun, amu, amy, awo, yrm, ywt, yod, ykp, ybs) :=
  ⟨7, yw_poss_l ok ht hk hr K1 K0 6 0 ywt (by omega) (fun i hi => by omega)⟩
theorem yw_best_l {post : SY → Prop} (K : ∀ bs : Nat → Int32, (∀ j, j < 6 → bs j = ykp j) → post (wsh, wct, yth, afr, aun, amu, amy, awo, yrm, ywt, yod, ykp, bs)) :
    ∀ d j (bs : Nat → Int32), j + d = 6 → (∀ i, i < j → bs i = ykp i) → wY_keepBest_2 post wsh wct (d + 1) (nI j) yth afr aun amu amy awo yrm ywt yod ykp bs := by
  intro d
  induction d with
  | zero =>
    intro j bs hj hb
    have e : j = 6 := by omega
    subst e
    exact br_t (nI_le (a := 6) (by omega) (by omega)) (K bs hb)
  | succ d ih =>
    intro j bs hj hb
    have cj : (nI j).toNatClampNeg = j := zi_cl
    have hij : vp_in (nI j) 6 := vp_in_nI (by omega) (by omega)
    refine br_f (nI_ge (b := 6) (by omega) (by decide)) (And.intro hij (And.intro hij ?_))
    rw [cj]
    refine nm_e (nm_r (nI_1 j) (ih (j + 1) _ (by omega) (fun i hi => ?_)))
    by_cases e : i = j
    · subst e; exact pk_us
    · rw [pk_un e]; exact hb i (by omega)
theorem yw_best {post : SY → Prop} (K : ∀ bs : Nat → Int32, (∀ j, j < 6 → bs j = ykp j) → post (wsh, wct, yth, afr, aun, amu, amy, awo, yrm, ywt, yod, ykp, bs)) : wpY_keepBest post (wsh, wct, yth, afr, aun, amu, amy, awo, yrm, ywt, yod, ykp, ybs) :=
  ⟨7, yw_best_l K 6 0 ybs (by omega) (fun i hi => by omega)⟩
end
end
section
/-! Y: tryAll finds the greedy numbers -/
section
variable {wsh wct : Int32} {yth afr aun amu amy awo yrm ywt yod ykp ybs : Nat → Int32}
variable {fr un mu ma wo : Nat → Nat} {pm s : Nat}
theorem yw_try_l {post : Int32 → SY → Prop} {g : Nat → Nat → Bool} {od ks : Nat → Nat} (ok : xa_ok fr un mu ma wo afr aun amu amy awo) (ht : yt_ok pm yth) (O : im_od (im_P pm) wo od) (ho : ∀ p, p < im_n (im_P pm) → yod p = nI (od p)) (hr : ∀ S, S < 64 → yrm S = nI (im_rm g S)) (G : im_GS g (im_P pm) (im_cm pm mu) ma wo ks)
    (K : ∀ wt kp bs : Nat → Int32, (∀ j, j < 6 → pm.testBit j = true → bs j = nI (ks j)) → post (nI (im_ls (im_P pm) ma wo ks)) (wsh, nI (im_n (im_P pm)), yth, afr, aun, amu, amy, awo, yrm, wt, yod, kp, bs)) :
    ∀ d k (ls : Int32) (wt kp bs : Nat → Int32), im_rk ma od k (im_n (im_P pm)) + d = im_tt ma od (im_n (im_P pm)) → kp_ok pm ma kp k →
    ((im_rk ma od k (im_n (im_P pm)) ≤ im_rk ma od ks (im_n (im_P pm)) ∧ ls = nI 100000) ∨ (im_rk ma od ks (im_n (im_P pm)) < im_rk ma od k (im_n (im_P pm)) ∧ ls = nI (im_ls (im_P pm) ma wo ks) ∧ ∀ j, j < 6 → pm.testBit j = true → bs j = nI (ks j))) →
    wY_tryAll_42 post (d + 1) ls 1 (nI (im_rk ma od k (im_n (im_P pm)))) wsh (nI (im_n (im_P pm))) yth afr aun amu amy awo yrm wt yod kp bs := by
  have hw : ∀ j, j < 6 → wo j ≤ 9 := fun j hj => (ok j hj).2.2.2.2.2
  have hm : ∀ j, j < 6 → ma j ≤ 6 := fun j hj => (ok j hj).2.2.2.1.2
  have h6 : im_n (im_P pm) ≤ 6 := by
    have b : im_n (im_P pm) ≤ im_s 6 (fun _ => 1) := im_s_le fun i _ => Bool.toNat_le _
    rw [im_s_k] at b
    omega
  have htt : im_tt ma od (im_n (im_P pm)) ≤ 117649 := by
    have a := im_tt_le hm (m := im_n (im_P pm)) (fun p hp => (O.1 p hp).1)
    have b : 7 ^ im_n (im_P pm) ≤ 7 ^ 6 := Nat.pow_le_pow_right (by decide) h6
    have c : 7 ^ 6 = 117649 := by decide
    omega
  have hGk : ∀ i, i < 6 → im_P pm i = true → ks i ≤ ma i := fun i hi hp => (G.2 i hi hp).1
  have hRs := im_rk_lt (ma := ma) (od := od) (k := ks) (m := im_n (im_P pm))
  intro d
  induction d with
  | zero =>
    intro k ls wt kp bs hd hk hI
    have := im_rk_lt (ma := ma) (od := od) (k := k) (m := im_n (im_P pm))
    omega
  | succ d ih =>
    intro k ls wt kp bs hd hk hI
    have hkm : ∀ i, i < 6 → im_P pm i = true → k i ≤ ma i := fun i hi hp => (hk i hi hp).2
    have hRk := im_rk_lt (ma := ma) (od := od) (k := k) (m := im_n (im_P pm))
    have hL := im_ls_le (P := im_P pm) (k := k) hw hm
    have hLs := im_ls_le (P := im_P pm) (k := ks) hw hm
    have aft : ∀ (ls : Int32) (wt bs : Nat → Int32), ((im_rk ma od k (im_n (im_P pm)) + 1 ≤ im_rk ma od ks (im_n (im_P pm)) ∧ ls = nI 100000) ∨ (im_rk ma od ks (im_n (im_P pm)) < im_rk ma od k (im_n (im_P pm)) + 1 ∧ ls = nI (im_ls (im_P pm) ma wo ks) ∧ ∀ j, j < 6 → pm.testBit j = true → bs j = nI (ks j))) →
        wY_tryAll_78 post (wY_tryAll_42 post (d + 1)) ls (nI (im_rk ma od k (im_n (im_P pm)))) wsh (nI (im_n (im_P pm))) yth afr aun amu amy awo yrm wt yod kp bs := by
      intro ls wt bs hI
      unfold wY_tryAll_78
      refine yw_next ok O ho hk (fun kp' k' hk' hr' => ?_) (fun kp' hr' => ?_)
      · refine nm_r (nI_1 _) ?_
        rw [← hr'] at hI ⊢
        exact ih k' ls wt kp' bs (by omega) hk' hI
      · rcases hI with z | z
        · omega
        · have fin := K wt kp' bs z.2.2
          rw [z.2.1]
          exact nm_e (br_c (fun _ => fin) (fun _ => br_t rfl fin))
    refine br_f (nI_ge (b := 117649) (by omega) (by decide)) (br_f (by decide) (yw_lost ok ht hk ?_))
    rcases hI with ⟨hc, hl⟩ | ⟨hc, hl, hb⟩
    · subst hl
      refine br_f (nI_ge (by omega) (by decide)) (yw_poss ok ht hk hr (fun wt' H => ?_) (fun wt' H => ?_))
      · have hle : im_rk ma od k (im_n (im_P pm)) = im_rk ma od ks (im_n (im_P pm)) := by
          rcases Nat.lt_or_ge (im_rk ma od k (im_n (im_P pm))) (im_rk ma od ks (im_n (im_P pm))) with z | z
          · exact absurd H (im_T3 O G hkm z)
          · omega
        have hq := im_T4 O hGk hkm hle
        refine br_f (by decide) (yw_best (fun bs' hb' => aft _ wt' bs' (Or.inr ⟨by omega, ?_, fun j hj hp => ?_⟩)))
        · rw [im_ls_c hq]
        · rw [hb' j hj, (hk j hj hp).1, hq j hj hp]
      · refine br_t rfl (aft _ wt' bs (Or.inl ⟨?_, rfl⟩))
        rcases Nat.lt_or_ge (im_rk ma od k (im_n (im_P pm))) (im_rk ma od ks (im_n (im_P pm))) with z | z
        · omega
        · have hq := im_T4 O hGk hkm (by omega)
          refine absurd ((im_H_c fun j hj => ?_).mp G.1) H
          unfold im_pt
          by_cases hp : im_P pm j = true
          · rw [if_pos hp, if_pos hp, hq j hj hp]
          · rw [if_neg hp, if_neg hp]
    · subst hl
      refine br_c (fun _ => aft _ wt bs (Or.inr ⟨by omega, rfl, hb⟩)) (fun z => ?_)
      rw [nI_leI (by omega) (by omega)] at z
      refine yw_poss ok ht hk hr (fun wt' H => ?_) (fun wt' H => br_t rfl (aft _ wt' bs (Or.inr ⟨by omega, rfl, hb⟩)))
      have := im_T1 hw G hkm H
      exact absurd this z
theorem yw_try_in {post : Int32 → SY → Prop} {g : Nat → Nat → Bool} {od ks : Nat → Nat} (ok : xa_ok fr un mu ma wo afr aun amu amy awo) (ht : yt_ok pm yth) (O : im_od (im_P pm) wo od) (ho : ∀ p, p < im_n (im_P pm) → yod p = nI (od p)) (hr : ∀ S, S < 64 → yrm S = nI (im_rm g S)) (G : im_GS g (im_P pm) (im_cm pm mu) ma wo ks)
    (K : ∀ wt kp bs : Nat → Int32, (∀ j, j < 6 → pm.testBit j = true → bs j = nI (ks j)) → post (nI (im_ls (im_P pm) ma wo ks)) (wsh, nI (im_n (im_P pm)), yth, afr, aun, amu, amy, awo, yrm, wt, yod, kp, bs)) :
    ∀ d j (kp : Nat → Int32), j + d = 6 → (∀ i, i < j → kp i = nI (ma i)) → wY_tryAll_11 post wsh (nI (im_n (im_P pm))) (d + 1) (nI j) yth afr aun amu amy awo yrm ywt yod kp ybs := by
  intro d
  induction d with
  | zero =>
    intro j kp hj hk
    have e : j = 6 := by omega
    subst e
    have e0 : ∀ m, im_rk ma od ma m = 0 := by
      intro m
      induction m with
      | zero => rfl
      | succ m ih =>
        show im_rk ma od ma m * (ma (od m) + 1) + (ma (od m) - ma (od m)) = 0
        rw [ih]; omega
    have := yw_try_l ok ht O ho hr G K (im_tt ma od (im_n (im_P pm))) ma (nI 100000) ywt kp ybs (by rw [e0]; omega) (fun i hi _ => ⟨hk i hi, Nat.le_refl _⟩) (Or.inl ⟨by rw [e0]; omega, rfl⟩)
    rw [e0] at this
    exact br_t (nI_le (a := 6) (by omega) (by omega)) ⟨_, this⟩
  | succ d ih =>
    intro j kp hj hk
    have oj := ok j (by omega)
    have cj : (nI j).toNatClampNeg = j := zi_cl
    have hij : vp_in (nI j) 6 := vp_in_nI (by omega) (by omega)
    refine br_f (nI_ge (b := 6) (by omega) (by decide)) (And.intro hij (And.intro hij ?_))
    rw [cj, oj.2.2.2.1.1]
    refine nm_e (nm_r (nI_1 j) (ih (j + 1) _ (by omega) (fun i hi => ?_)))
    by_cases e : i = j
    · subst e; exact pk_us
    · rw [pk_un e]; exact hk i (by omega)
theorem yw_try {post : Int32 → SY → Prop} {ks : Nat → Nat} (ok : xa_ok fr un mu ma wo afr aun amu amy awo) (ht : yt_ok pm yth) (hs : s < 2 ^ 24) (G : im_GS (im_g pm fr un s) (im_P pm) (im_cm pm mu) ma wo ks)
    (K : ∀ ct (rm wt od kp bs : Nat → Int32), (∀ j, j < 6 → pm.testBit j = true → bs j = nI (ks j)) → post (nI (im_ls (im_P pm) ma wo ks)) (nI s, ct, yth, afr, aun, amu, amy, awo, rm, wt, od, kp, bs)) :
    wpY_tryAll post (nI s, wct, yth, afr, aun, amu, amy, awo, yrm, ywt, yod, ykp, ybs) := by
  unfold wpY_tryAll
  refine yw_sort ok ht (fun od ho => ?_)
  refine yw_meas (b := 0) ok ht hs (by omega) (fun rm hr => ⟨7, ?_⟩)
  have e : s ||| (2 ^ 0 - 1) = s := by
    show s ||| 0 = s
    exact Nat.or_zero s
  rw [e] at hr
  obtain ⟨odn, O⟩ := im_od_ex (im_P pm) wo
  refine yw_try_in ok ht O (fun p hp => ?_) hr G (fun wt kp bs hb => K _ rm wt od kp bs hb) 6 0 ykp (by omega) (fun i hi => by omega)
  have a := O.1 p hp
  have b := ho (odn p) a.1 a.2.1
  rw [a.2.2] at b
  exact b
end
end
section
/-! Y: give, at -/
section
variable {wsh wct : Int32} {yth afr aun amu amy awo yrm ywt yod ykp ybs : Nat → Int32}
variable {fr un mu ma wo : Nat → Nat} {pm s : Nat}
theorem yw_give_l {post : Int32 → SY → Prop} {w : Nat → Nat} {t : Nat} (ok : xa_ok fr un mu ma wo afr aun amu amy awo) (hth : yt_ok pm yth) (hs : s < 2 ^ 24) (ht : t < 24) (hr : ∀ S, S < 64 → yrm S = nI (im_rm (im_g pm fr un (s ||| (2 ^ (t + 1) - 1))) S))
    (K : ∀ r (wt : Nat → Int32), im_pk (pn_C pm fr un s t w) r → (∀ i, i < 6 → wt i = nI (im_u w r (w r - 1) i)) → post (zi_o r) (nI s, wct, yth, afr, aun, amu, amy, awo, yrm, wt, yod, ykp, ybs)) :
    ∀ d j (wt : Nat → Int32), j + d = 6 → pn_T pm wt w → (∀ i, i < j → ¬ pn_C pm fr un s t w i) → wY_give_9 post (nI t) (nI s) wct (d + 1) (nI j) yth afr aun amu amy awo yrm wt yod ykp ybs := by
  intro d
  induction d with
  | zero =>
    intro j wt hj hT hC
    have e : j = 6 := by omega
    subst e
    refine br_t (nI_le (a := 6) (by omega) (by omega)) (K 6 wt (Or.inr ⟨rfl, hC⟩) (fun i hi => ?_))
    rw [im_un' (by omega)]; exact (hT i hi).1
  | succ d ih =>
    intro j wt hj hT hC
    have oj := hT j (by omega)
    have cj : (nI j).toNatClampNeg = j := zi_cl
    have hij : vp_in (nI j) 6 := vp_in_nI (by omega) (by omega)
    have nxt : ∀ wt : Nat → Int32, pn_T pm wt w → ¬ pn_C pm fr un s t w j → wY_give_9 post (nI t) (nI s) wct (d + 1) (nI (j + 1)) yth afr aun amu amy awo yrm wt yod ykp ybs := by
      intro wt hT hn
      refine ih (j + 1) wt (by omega) hT (fun i hi => ?_)
      rcases Nat.lt_or_ge i j with z | z
      · exact hC i z
      · have e : i = j := by omega
        subst e; exact hn
    refine br_f (nI_ge (b := 6) (by omega) (by decide)) (And.intro hij ?_)
    rw [cj, oj.1]
    rcases Nat.eq_zero_or_pos (w j) with z | z
    · refine br_t ?_ (nm_r (nI_1 j) (nxt wt hT (fun h => ?_)))
      · rw [z]; decide
      · have := h.1; omega
    · refine br_f (nI_nle z (by omega)) ?_
      rw [zi_sh (by omega)]
      have enb : im_nb (im_g pm fr un s) (2 ^ j) t = im_g pm fr un s j t := by
        rw [Bool.eq_iff_iff, im_nb_i]
        constructor
        · rintro ⟨i, hi, hb, hg⟩
          rw [zi_t2, decide_eq_true_iff] at hb
          subst hb; exact hg
        · intro hg
          exact ⟨j, by omega, by rw [zi_t2]; exact decide_eq_true rfl, hg⟩
      refine yw_covers ok hth hs (Nat.pow_lt_pow_right (a := 2) (m := j) (n := 6) (by decide) (by omega)) ht (fun hg => ?_) (fun hg => ?_)
      · rw [enb] at hg
        refine br_f (by decide) (And.intro hij (And.intro hij ?_))
        have e1 : nI (w j) - 1 = nI (w j - 1) := pk_sub (b := 1) z
        rw [e1]
        have hT' := pn_T_dec (j := j) hT
        refine nm_e (yw_can hth hr (c := im_u w j (w j - 1)) (fun i hi => ⟨?_, fun _ => (hT' i hi).1, fun hp => ?_⟩) (fun H => ?_) (fun H => ?_))
        · have := (hT' i hi).2.1; omega
        · have := (hT' i hi).2.2
          rcases Nat.eq_zero_or_pos (im_u w j (w j - 1) i) with y | y
          · exact y
          · rw [this y] at hp; cases hp
        · refine br_f (by decide) ?_
          have := K j _ (Or.inl ⟨by omega, ⟨z, hg, H⟩, hC⟩) (fun i hi => (hT' i hi).1)
          rw [zi_ol (by omega)] at this
          exact this
        · refine br_t rfl (And.intro hij (And.intro hij ?_))
          rw [pk_us, nI_1 (w j - 1), Nat.sub_add_cancel z]
          exact nm_e (nm_r (nI_1 j) (nxt _ (pn_T_re hT) (fun h => H h.2.2)))
      · rw [enb] at hg
        refine br_t rfl (nm_r (nI_1 j) (nxt wt hT (fun h => ?_)))
        rw [h.2.1] at hg; cases hg
theorem yw_give {post : Int32 → SY → Prop} {w : Nat → Nat} {t : Nat} (ok : xa_ok fr un mu ma wo afr aun amu amy awo) (hth : yt_ok pm yth) (hs : s < 2 ^ 24) (ht : t < 24) (hT : pn_T pm ywt w)
    (K : ∀ r (rm wt : Nat → Int32), im_pk (pn_C pm fr un s t w) r → (∀ i, i < 6 → wt i = nI (im_u w r (w r - 1) i)) → post (zi_o r) (nI s, wct, yth, afr, aun, amu, amy, awo, rm, wt, yod, ykp, ybs)) : wpY_give post (nI s, wct, yth, afr, aun, amu, amy, awo, yrm, ywt, yod, ykp, ybs) (nI t) := by
  unfold wpY_give
  dsimp only
  rw [nI_1 t]
  refine yw_meas (b := t + 1) ok hth hs (by omega) (fun rm hr => ⟨7, ?_⟩)
  exact yw_give_l ok hth hs ht hr (fun r => K r rm) 6 0 ywt (by omega) hT (fun i hi => by omega)
theorem yw_at_l {post : Int32 → SY → Prop} {w0 : Nat → Nat} {t : Nat} (ok : xa_ok fr un mu ma wo afr aun amu amy awo) (hth : yt_ok pm yth) (hs : s < 2 ^ 24) (ht : t < 24)
    (K : ∀ rm wt : Nat → Int32, post (zi_o (pn_r pm fr un s w0 t)) (nI s, wct, yth, afr, aun, amu, amy, awo, rm, wt, yod, ykp, ybs)) :
    ∀ d u x (rm wt : Nat → Int32), u + d = t + 1 → pn_T pm wt (pn_w pm fr un s w0 u) → (u = t + 1 → x = zi_o (pn_r pm fr un s w0 t)) → wY_at_55 post (nI t) (d + 1) x (nI u) (nI s) wct yth afr aun amu amy awo rm wt yod ykp ybs := by
  intro d
  induction d with
  | zero =>
    intro u x rm wt hu hT hx
    refine br_t (nI_lt (by omega) (by omega)) (br_f (nI_ge (b := 24) (by omega) (by decide)) ?_)
    rw [hx (by omega)]
    exact K rm wt
  | succ d ih =>
    intro u x rm wt hu hT hx
    refine br_f (nI_nlt (by omega) (by omega)) (br_f (nI_ge (b := 24) (by omega) (by decide)) (yw_give ok hth hs (by omega) hT (fun r rm wt hr hw => ?_)))
    have er : pn_r pm fr un s w0 u = r := im_pick_e hr
    have ew := pn_w_s er
    refine nm_r (nI_1 u) (ih (u + 1) _ rm wt (by omega) ?_ (fun e => ?_))
    · rw [ew]
      intro i hi
      have a := hT i hi
      refine ⟨hw i hi, ?_, ?_⟩
      · by_cases e : i = r
        · subst e; rw [im_us]; omega
        · rw [im_un' e]; exact a.2.1
      · by_cases e : i = r
        · subst e; rw [im_us]; intro z; exact a.2.2 (by omega)
        · rw [im_un' e]; exact a.2.2
    · have : u = t := by omega
      subst this; rw [er]
theorem yw_at_big {post : Int32 → SY → Prop} {w0 : Nat → Nat} {t : Nat} (ok : xa_ok fr un mu ma wo afr aun amu amy awo) (hth : yt_ok pm yth) (hs : s < 2 ^ 24) (ht : 24 ≤ t) (ht2 : t < 2 ^ 31)
    (K : ∀ rm wt : Nat → Int32, post (-1) (nI s, wct, yth, afr, aun, amu, amy, awo, rm, wt, yod, ykp, ybs)) :
    ∀ d u x (rm wt : Nat → Int32), u + d = 24 → pn_T pm wt (pn_w pm fr un s w0 u) → wY_at_55 post (nI t) (d + 1) x (nI u) (nI s) wct yth afr aun amu amy awo rm wt yod ykp ybs := by
  intro d
  induction d with
  | zero =>
    intro u x rm wt hu hT
    have fin : wY_at_78 post (nI t) x (nI s) wct yth afr aun amu amy awo rm wt yod ykp ybs := br_t (nI_le (a := 24) ht ht2) (K rm wt)
    exact br_c (fun _ => fin) (fun _ => br_t (nI_le (a := 24) (by omega) (by omega)) fin)
  | succ d ih =>
    intro u x rm wt hu hT
    refine br_f (nI_nlt (by omega) (by omega)) (br_f (nI_ge (b := 24) (by omega) (by decide)) (yw_give ok hth hs (by omega) hT (fun r rm wt hr hw => ?_)))
    have er : pn_r pm fr un s w0 u = r := im_pick_e hr
    have ew := pn_w_s er
    refine nm_r (nI_1 u) (ih (u + 1) _ rm wt (by omega) ?_)
    rw [ew]
    intro i hi
    have a := hT i hi
    refine ⟨hw i hi, ?_, ?_⟩
    · by_cases e : i = r
      · subst e; rw [im_us]; omega
      · rw [im_un' e]; exact a.2.1
    · by_cases e : i = r
      · subst e; rw [im_us]; intro z; exact a.2.2 (by omega)
      · rw [im_un' e]; exact a.2.2
theorem yw_at_in {post : Int32 → SY → Prop} {ks : Nat → Nat} {x1 : Int32} (ok : xa_ok fr un mu ma wo afr aun amu amy awo) (hth : yt_ok pm yth) (hk : ∀ j, j < 6 → pm.testBit j = true → ybs j = nI (ks j) ∧ ks j ≤ 6)
    (K : ∀ wt : Nat → Int32, pn_T pm wt (im_pt (im_P pm) (im_cm pm mu) ks) → ∃ n, wY_at_55 post x1 n (-1) 0 (nI s) wct yth afr aun amu amy awo yrm wt yod ykp ybs) :
    ∀ d j (wt : Nat → Int32), j + d = 6 → (∀ i, i < j → wt i = nI (im_pt (im_P pm) (im_cm pm mu) ks i)) → wY_at_7 post x1 (nI s) wct (d + 1) (nI j) yth afr aun amu amy awo yrm wt yod ykp ybs := by
  have hwv : ∀ i, i < 6 → im_pt (im_P pm) (im_cm pm mu) ks i = (if pm.testBit i = true then mu i + ks i else 0) := by
    intro i _
    unfold im_pt im_P im_cm
    split <;> rfl
  intro d
  induction d with
  | zero =>
    intro j wt hj hT
    have e : j = 6 := by omega
    subst e
    refine br_t (nI_le (a := 6) (by omega) (by omega)) (K wt (fun i hi => ?_))
    have oi := ok i hi
    refine ⟨hT i hi, ?_, ?_⟩
    · show im_pt (im_P pm) (im_cm pm mu) ks i < 128
      rw [hwv i hi]
      split
      · rename_i hp
        have := (hk i hi hp).2
        omega
      · omega
    · show 0 < im_pt (im_P pm) (im_cm pm mu) ks i → _
      rw [hwv i hi]
      intro z
      cases hp : pm.testBit i
      · rw [hp, if_neg (by decide)] at z; omega
      · rfl
  | succ d ih =>
    intro j wt hj hT
    have oj := ok j (by omega)
    have cj : (nI j).toNatClampNeg = j := zi_cl
    have hij : vp_in (nI j) 6 := vp_in_nI (by omega) (by omega)
    have nxt : ∀ x, x = nI (im_pt (im_P pm) (im_cm pm mu) ks j) → ∀ i, i < j + 1 → upd wt j x i = nI (im_pt (im_P pm) (im_cm pm mu) ks i) := by
      intro x hx i hi
      by_cases e : i = j
      · subst e; rw [pk_us, hx]
      · rw [pk_un e]; exact hT i (by omega)
    refine br_f (nI_ge (b := 6) (by omega) (by decide)) (And.intro hij (yt_b hth (by omega) (fun hP => And.intro hij ?_) (fun hP => And.intro hij (And.intro hij (And.intro hij ?_)))))
    · rw [cj]
      refine nm_e (nm_r (nI_1 j) (ih (j + 1) _ (by omega) (nxt _ ?_)))
      rw [hwv j (by omega), if_neg (by rw [hP]; decide)]; rfl
    · have ku := hk j (by omega) hP
      rw [cj, ku.1, oj.2.2.1.1, nI_add]
      refine nm_e (nm_r (nI_1 j) (ih (j + 1) _ (by omega) (nxt _ ?_)))
      rw [hwv j (by omega), if_pos hP]
end
end
section
/-! the greedy numbers exist; packed words; the relation -/
theorem nx_ex (pm D : Nat) (wo : Nat → Nat) : ∀ j, j ≤ 6 → ∃ b, nx_S pm D wo b j
  | 0, _ => ⟨6, Or.inl ⟨rfl, fun i hi => by omega⟩⟩
  | j + 1, h => by
    obtain ⟨b, hb⟩ := nx_ex pm D wo j (by omega)
    by_cases hq : pm.testBit j = true ∧ D.testBit j = false
    · rcases hb with ⟨h6, hb⟩ | ⟨h6, hbj, hbP, hbD, hb⟩
      · refine ⟨j, Or.inr ⟨by omega, by omega, hq.1, hq.2, fun i hi hp hd => ?_⟩⟩
        rcases Nat.lt_or_ge i j with y | y
        · rw [hb i y hp] at hd; cases hd
        · exact Or.inl (by omega)
      · rcases Nat.lt_or_ge (wo b) (wo j) with y | y
        · refine ⟨j, Or.inr ⟨by omega, by omega, hq.1, hq.2, fun i hi hp hd => ?_⟩⟩
          rcases Nat.lt_or_ge i j with x | x
          · refine Or.inr (im_bf_i.mpr ?_)
            rcases hb i x hp hd with e | e
            · subst e; omega
            · rw [im_bf_i] at e; omega
          · exact Or.inl (by omega)
        · refine ⟨b, Or.inr ⟨h6, by omega, hbP, hbD, fun i hi hp hd => ?_⟩⟩
          rcases Nat.lt_or_ge i j with x | x
          · exact hb i x hp hd
          · have e : i = j := by omega
            subst e
            exact Or.inr (im_bf_i.mpr (by omega))
    · refine ⟨b, ?_⟩
      rcases hb with ⟨h6, hb⟩ | ⟨h6, hbj, hbP, hbD, hb⟩
      · refine Or.inl ⟨h6, fun i hi hp => ?_⟩
        rcases Nat.lt_or_ge i j with x | x
        · exact hb i x hp
        · have e : i = j := by omega
          subst e
          cases hd : D.testBit i
          · exact absurd ⟨hp, hd⟩ hq
          · rfl
      · refine Or.inr ⟨h6, by omega, hbP, hbD, fun i hi hp hd => ?_⟩
        rcases Nat.lt_or_ge i j with x | x
        · exact hb i x hp hd
        · have e : i = j := by omega
          subst e; exact absurd ⟨hp, hd⟩ hq
/-- the most that one task can get more -/
theorem gx_max {g : Nat → Nat → Bool} {c : Nat → Nat} {j : Nat} (hj : j < 6) (H : im_H g c) : ∀ m, ∃ n, n ≤ m ∧ im_H g (fun i => c i + (if i = j then n else 0)) ∧ (n = m ∨ ∃ S, S < 64 ∧ S.testBit j = true ∧ im_rm g S ≤ im_dm (fun i => c i + (if i = j then n else 0)) S)
  | 0 => ⟨0, Nat.le_refl _, (im_H_c fun i _ => by split <;> rfl).mp H, Or.inl rfl⟩
  | m + 1 => by
    obtain ⟨n, hn, hH, hS⟩ := gx_max hj H m
    rcases hS with e | hS
    · subst e
      rcases Classical.em (im_H g (fun i => c i + (if i = j then n + 1 else 0))) with z | z
      · exact ⟨n + 1, Nat.le_refl _, z, Or.inl rfl⟩
      · refine ⟨n, by omega, hH, Or.inr ?_⟩
        rcases Classical.em (∃ S, S < 64 ∧ im_rm g S < im_dm (fun i => c i + (if i = j then n + 1 else 0)) S) with ⟨S, hS, hl⟩ | y
        · have a := hH S hS
          refine ⟨S, hS, ?_, ?_⟩
          · cases hb : S.testBit j
            · have : im_dm (fun i => c i + (if i = j then n + 1 else 0)) S = im_dm (fun i => c i + (if i = j then n else 0)) S := im_s_c fun i hi => by
                by_cases e : i = j
                · subst e; rw [hb]; rfl
                · dsimp only
                  rw [if_neg e, if_neg e]
              omega
            · rfl
          · have : im_dm (fun i => c i + (if i = j then n + 1 else 0)) S ≤ im_dm (fun i => c i + (if i = j then n else 0)) S + im_dm (fun i => if i = j then 1 else 0) S := by
              rw [← im_dm_add]
              refine im_dm_le fun i _ => ?_
              by_cases e : i = j
              · rw [if_pos e, if_pos e, if_pos e]; omega
              · rw [if_neg e, if_neg e, if_neg e]; omega
            have b : im_dm (fun i => if i = j then 1 else 0) S ≤ im_s 6 (fun i => if i = j then 1 else 0) := im_s_le fun i _ => by
              dsimp only
              cases S.testBit i <;> simp
            rw [im_s_1 hj] at b
            omega
        · refine absurd (fun S hS => ?_) z
          rcases Nat.lt_or_ge (im_rm g S) (im_dm (fun i => c i + (if i = j then n + 1 else 0)) S) with x | x
          · exact absurd ⟨S, hS, x⟩ y
          · exact x
    · exact ⟨n, by omega, hH, Or.inr hS⟩
theorem gx_GS {g : Nat → Nat → Bool} {pm : Nat} {mu ma wo : Nat → Nat} (H : im_H g (im_cm pm mu)) : ∃ ks, im_GS g (im_P pm) (im_cm pm mu) ma wo ks := by
  have key : ∀ m, ∃ D ks, ll_I g pm mu ma wo ks D ∧ im_H g (im_pt (im_P D) (im_cm pm mu) ks) ∧ ((∀ i, i < 6 → pm.testBit i = true → D.testBit i = true) ∨ m ≤ im_n (im_P D)) := by
    intro m
    induction m with
    | zero =>
      refine ⟨0, fun _ => 0, ⟨by omega, fun i _ h => ll_z h, fun i l _ _ h => ll_z h, fun i _ h => ll_z h⟩, (im_H_c fun i _ => ?_).mp H, Or.inr (by omega)⟩
      unfold im_pt im_P; rw [Nat.zero_testBit, if_neg (by decide)]; rfl
    | succ m ih =>
      obtain ⟨D, ks, hI, hH, hx⟩ := ih
      obtain ⟨b, hb⟩ := nx_ex pm D wo 6 (Nat.le_refl _)
      rcases hb with ⟨h6, hb⟩ | ⟨h6, hbj, hbP, hbD, hb⟩
      · exact ⟨D, ks, hI, hH, Or.inl hb⟩
      · obtain ⟨n, hn, hH2, hS⟩ := gx_max h6 hH (ma b)
        refine ⟨D ||| 2 ^ b, im_u ks b n, ll_step hI h6 hbP hbD hb hn (fun i _ => rfl) hS, (im_H_c fun i _ => ?_).mp hH2, ?_⟩
        · exact (ll_pt hbD).symm
        · rcases hx with z | z
          · have := z b h6 hbP
            rw [hbD] at this; cases this
          · right
            rw [ll_n h6 hbD]; omega
  obtain ⟨D, ks, hI, hH, hx⟩ := key 6
  exact ⟨ks, (ll_end hI hH hx).1⟩
/-! packed words -/
def pa_v (p : Int32) (m y w : Nat) : Prop := p &&& 7 = nI m ∧ (p >>> ((3 : Int32) &&& 31)) &&& 7 = nI y ∧ p >>> ((6 : Int32) &&& 31) = nI w ∧ m ≤ 6 ∧ y ≤ 6 ∧ w ≤ 9
theorem pa_neg {p : Int32} {m y w : Nat} (h : pa_v p m y w) (hw : 1 ≤ w) : ¬ p < 0 := by
  intro z
  have a := congrArg Int32.toInt h.2.2.1
  rw [pk_shr p _ 6 (by decide), nI_toInt (by have := h.2.2.2.2.2; omega), Int.shiftRight_eq_div_pow] at a
  rw [Int32.lt_iff_toInt_lt, show (0 : Int32).toInt = 0 by decide] at z
  have e : ((2 ^ 6 : Nat) : Int) = 64 := by decide
  rw [e] at a
  omega
theorem xw_pack {post : Int32 → Prop} {p : Int32} (h1 : ∀ m y w, pa_v p m y w → 1 ≤ w → post 1) (h0 : (¬ ∃ m y w, pa_v p m y w ∧ 1 ≤ w) → post 0) : wpX_packedOk post p := by
  rcases Classical.em (∃ m y w, pa_v p m y w ∧ 1 ≤ w) with ⟨m, y, w, hv, hw⟩ | z
  · have K := h1 m y w hv hw
    obtain ⟨e1, e2, e3, l1, l2, l3⟩ := hv
    unfold wpX_packedOk
    rw [e1, e2, e3]
    exact nm_e (br_f (nI_nlt (a := 6) l1 (by decide)) (br_f (nI_nlt (a := 6) l2 (by decide)) (br_f (nI_nlt (b := 1) hw (by omega)) (br_f (nI_nlt (a := 9) l3 (by decide)) K))))
  · have K := h0 z
    obtain ⟨m, hm, e1⟩ := pk_andE p (m := 7) 3 (by decide)
    obtain ⟨y, hy, e2⟩ := pk_andE (p >>> ((3 : Int32) &&& 31)) (m := 7) 3 (by decide)
    unfold wpX_packedOk
    rw [e1, e2]
    refine nm_e (br_c (fun _ => K) (fun a => br_c (fun _ => K) (fun b => br_c (fun _ => K) (fun c => br_c (fun _ => K) (fun d => absurd ?_ z)))))
    have c0 : ¬ p >>> ((6 : Int32) &&& 31) < 0 := by
      intro x; exact c (Int32.lt_of_lt_of_le x (by decide))
    obtain ⟨w, hw, e3⟩ := nI_of2 (M := 9) (n := 9) (by decide) c0 (Int32.not_lt.mp d)
    rw [e3] at c
    have a' : ¬ nI 6 < nI m := a
    have b' : ¬ nI 6 < nI y := b
    have c' : ¬ nI w < nI 1 := c
    rw [nI_ltI (by omega) (by omega)] at a' b' c'
    exact ⟨m, y, w, ⟨e1, e2, e3, by omega, by omega, hw⟩, by omega⟩
theorem yw_form {post : Int32 → Prop} {u : SY} {p : Int32} (h1 : ∀ m y w, pa_v p m y w → 1 ≤ w → post 1) (h0 : (¬ ∃ m y w, pa_v p m y w ∧ 1 ≤ w) → post 0) : wpY_form post u p := by
  obtain ⟨wsh, wct, yth, afr, aun, amu, amy, awo, yrm, ywt, yod, ykp, ybs⟩ := u
  rcases Classical.em (∃ m y w, pa_v p m y w ∧ 1 ≤ w) with ⟨m, y, w, hv, hw⟩ | z
  · have K := h1 m y w hv hw
    have hn := pa_neg hv hw
    obtain ⟨e1, e2, e3, l1, l2, l3⟩ := hv
    unfold wpY_form
    dsimp only
    rw [e1, e2, e3]
    exact nm_e (br_f hn (br_f (nI_nlt (a := 6) l1 (by decide)) (br_f (nI_nlt (a := 6) l2 (by decide)) (br_f (nI_nlt (b := 1) hw (by omega)) (br_f (nI_nlt (a := 9) l3 (by decide)) K)))))
  · have K := h0 z
    obtain ⟨m, hm, e1⟩ := pk_andE p (m := 7) 3 (by decide)
    obtain ⟨y, hy, e2⟩ := pk_andE (p >>> ((3 : Int32) &&& 31)) (m := 7) 3 (by decide)
    unfold wpY_form
    dsimp only
    rw [e1, e2]
    refine nm_e (br_c (fun _ => K) (fun _ => br_c (fun _ => K) (fun a => br_c (fun _ => K) (fun b => br_c (fun _ => K) (fun c => br_c (fun _ => K) (fun d => absurd ?_ z))))))
    have c0 : ¬ p >>> ((6 : Int32) &&& 31) < 0 := by
      intro x; exact c (Int32.lt_of_lt_of_le x (by decide))
    obtain ⟨w, hw, e3⟩ := nI_of2 (M := 9) (n := 9) (by decide) c0 (Int32.not_lt.mp d)
    rw [e3] at c
    have a' : ¬ nI 6 < nI m := a
    have b' : ¬ nI 6 < nI y := b
    have c' : ¬ nI w < nI 1 := c
    rw [nI_ltI (by omega) (by omega)] at a' b' c'
    exact ⟨m, y, w, ⟨e1, e2, e3, by omega, by omega, hw⟩, by omega⟩
theorem pa_old {m y w : Nat} (hm : m ≤ 6) (hy : y ≤ 6) (hw : w ≤ 9) : pa_v (nI m + 8 * nI y + 64 * nI w) m y w := by
  have e : nI m + 8 * nI y + 64 * nI w = nI (m + 8 * y + 64 * w) := by
    show nI m + nI 8 * nI y + nI 64 * nI w = _
    rw [pk_mul, pk_mul, nI_add, nI_add]
  rw [e]
  refine ⟨?_, ?_, ?_, hm, hy, hw⟩
  · rw [pk_andN (by omega) 3 (by decide)]
    exact congrArg nI (by omega)
  · rw [pk_shrN (by omega) _ 3 (by decide), pk_andN (by omega) 3 (by decide)]
    exact congrArg nI (by omega)
  · rw [pk_shrN (by omega) _ 6 (by decide)]
    exact congrArg nI (by omega)
section
variable {vpr vbl vsh vrc vle vkn vll : Int32} {afr aun amu amy awo aow aln agu awb aku afp atg : Nat → Int32}
variable {wsh wct : Int32} {yth yrm ywt yod ykp ybs : Nat → Int32}
theorem xw_unpack {post : SX → Prop} {p : Int32} {j m y w : Nat} (hj : j < 6) (hv : pa_v p m y w) (K : post (vpr, vbl, vsh, vrc, vle, 0, vll, afr, aun, upd amu j (nI m), upd amy j (nI y), upd awo j (nI w), aow, aln, agu, awb, aku, afp, atg)) : wpX_unpack post (vpr, vbl, vsh, vrc, vle, vkn, vll, afr, aun, amu, amy, awo, aow, aln, agu, awb, aku, afp, atg) (nI j) p := by
  obtain ⟨e1, e2, e3, l1, l2, l3⟩ := hv
  have cj : (nI j).toNatClampNeg = j := zi_cl
  have hij : vp_in (nI j) 6 := vp_in_nI hj (by omega)
  unfold wpX_unpack
  dsimp only
  rw [e1, e2, e3, cj, zi_nb m (by omega), zi_nb y (by omega), zi_nb w (by omega)]
  exact And.intro hij (nm_e (And.intro hij (nm_e (And.intro hij (nm_e K)))))
theorem yw_hold {post : SY → Prop} {p : Int32} {j m y w : Nat} (hj : j < 6) (hv : pa_v p m y w) (K : post (wsh, wct, yth, afr, aun, upd amu j (nI m), upd amy j (nI y), upd awo j (nI w), yrm, ywt, yod, ykp, ybs)) : wpY_hold post (wsh, wct, yth, afr, aun, amu, amy, awo, yrm, ywt, yod, ykp, ybs) (nI j) p := by
  obtain ⟨e1, e2, e3, l1, l2, l3⟩ := hv
  have cj : (nI j).toNatClampNeg = j := zi_cl
  have hij : vp_in (nI j) 6 := vp_in_nI hj (by omega)
  unfold wpY_hold
  dsimp only
  rw [e1, e2, e3, cj]
  exact And.intro hij (nm_e (And.intro hij (nm_e (And.intro hij (nm_e K)))))
end
end
section
/-! the relation, its two rules; the constructors, tasks, blocked, loss, take, block -/
def rl_ok (pm bm : Nat) (fr un mu ma wo : Nat → Nat) (vkn vll : Int32) (afr aun amu amy awo aku afp yth : Nat → Int32) : Prop :=
  pm < 64 ∧ bm < 2 ^ 24 ∧ xa_ok fr un mu ma wo afr aun amu amy awo ∧ yt_ok pm yth ∧ im_H (im_g pm fr un bm) (im_cm pm mu) ∧ (vkn = 0 ∨ (vkn = 1 ∧ kn_ok pm bm fr un mu ma wo vll aku afp))
def i_Rel (k : Nat) (u : SX) (v : SY) : Prop := match u, v with
  | (vpr, vbl, vsh, vrc, vle, vkn, vll, afr, aun, amu, amy, awo, aow, aln, agu, awb, aku, afp, atg), (wsh, wct, yth, bfr, bun, bmu, bmy, bwo, yrm, ywt, yod, ykp, ybs) => bfr = afr ∧ bun = aun ∧ bmu = amu ∧ bmy = amy ∧ bwo = awo ∧ ∃ (pm bm : Nat) (fr un mu ma wo : Nat → Nat), vpr = nI pm ∧ vbl = nI bm ∧ wsh = nI bm ∧ rl_ok pm bm fr un mu ma wo vkn vll afr aun amu amy awo aku afp yth
theorem rl_el {k : Nat} {u : SX} {v : SY} {P : SX → SY → Prop} (h : ∀ (pm bm : Nat) (fr un mu ma wo : Nat → Nat) (vsh vrc vle vkn vll : Int32) (afr aun amu amy awo aow aln agu awb aku afp atg : Nat → Int32) (wct : Int32) (yth yrm ywt yod ykp ybs : Nat → Int32), rl_ok pm bm fr un mu ma wo vkn vll afr aun amu amy awo aku afp yth → P (nI pm, nI bm, vsh, vrc, vle, vkn, vll, afr, aun, amu, amy, awo, aow, aln, agu, awb, aku, afp, atg) (nI bm, wct, yth, afr, aun, amu, amy, awo, yrm, ywt, yod, ykp, ybs)) (I : i_Rel k u v) : P u v := by
  obtain ⟨vpr, vbl, vsh, vrc, vle, vkn, vll, afr, aun, amu, amy, awo, aow, aln, agu, awb, aku, afp, atg⟩ := u
  obtain ⟨wsh, wct, yth, bfr, bun, bmu, bmy, bwo, yrm, ywt, yod, ykp, ybs⟩ := v
  obtain ⟨e1, e2, e3, e4, e5, pm, bm, fr, un, mu, ma, wo, e6, e7, e8, R⟩ := I
  subst e1 e2 e3 e4 e5 e6 e7 e8
  exact h _ _ _ _ _ _ _ _ _ _ _ _ _ _ _ _ _ _ _ _ _ _ _ _ _ _ _ _ _ _ _ R
section
variable {vpr vbl vsh vrc vle vkn vll : Int32} {afr aun amu amy awo aow aln agu awb aku afp atg : Nat → Int32}
variable {wsh wct : Int32} {yth yrm ywt yod ykp ybs : Nat → Int32}
variable {fr un mu ma wo : Nat → Nat} {pm bm : Nat}
theorem rl_in {k : Nat} (R : rl_ok pm bm fr un mu ma wo vkn vll afr aun amu amy awo aku afp yth) : i_Rel k (nI pm, nI bm, vsh, vrc, vle, vkn, vll, afr, aun, amu, amy, awo, aow, aln, agu, awb, aku, afp, atg) (nI bm, wct, yth, afr, aun, amu, amy, awo, yrm, ywt, yod, ykp, ybs) :=
  ⟨rfl, rfl, rfl, rfl, rfl, pm, bm, fr, un, mu, ma, wo, rfl, rfl, rfl, R⟩
end
theorem i_up {k : Nat} {u : SX} {v : SY} (h : i_Rel k u v) : i_Rel (k + 4) u v := rl_el (P := fun u v => i_Rel (k + 4) u v) (by
  intro pm bm fr un mu ma wo vsh vrc vle vkn vll afr aun amu amy awo aow aln agu awb aku afp atg wct yth yrm ywt yod ykp ybs R
  exact rl_in R) h
theorem rl_H0 {g : Nat → Nat → Bool} {mu : Nat → Nat} : im_H g (im_cm 0 mu) := by
  intro S _
  have : im_dm (im_cm 0 mu) S = 0 := im_s_0 fun j _ => by
    have e : im_cm 0 mu j = 0 := by unfold im_cm; rw [Nat.zero_testBit]; rfl
    rw [e]
    split <;> rfl
  omega
theorem rl_0 : rl_ok 0 0 (fun _ => 0) (fun _ => 0) (fun _ => 0) (fun _ => 0) (fun _ => 0) 0 0 (fun _ => 0) (fun _ => 0) (fun _ => 0) (fun _ => 0) (fun _ => 0) (fun _ => 0) (fun _ => 0) (fun _ => 0) :=
  ⟨by decide, by decide, fun j _ => ⟨⟨rfl, Nat.zero_le _⟩, ⟨rfl, Nat.zero_le _⟩, ⟨rfl, Nat.zero_le _⟩, ⟨rfl, Nat.zero_le _⟩, ⟨rfl, Nat.zero_le _⟩⟩, fun j _ => by rw [Nat.zero_testBit]; rfl, rl_H0, Or.inl rfl⟩
theorem i_vc0 : wpX_init (fun u => wpY_init (fun v => i_Rel 0 u v)) := by
  unfold wpX_init wpY_init i_Rel
  exact ⟨rfl, rfl, rfl, rfl, rfl, 0, 0, fun _ => 0, fun _ => 0, fun _ => 0, fun _ => 0, fun _ => 0, rfl, rfl, rfl, rl_0⟩
section
variable {wsh wct : Int32} {yth afr aun amu amy awo yrm ywt yod ykp ybs : Nat → Int32}
variable {pm : Nat}
theorem yw_tasks_l {post : Int32 → Prop} (ht : yt_ok pm yth) (hpm : pm < 64) (K : post (nI pm)) : ∀ d j a, j + d = 6 → (∀ i, a.testBit i = (decide (i < j) && pm.testBit i)) → wY_tasks_4 post wsh wct yth afr aun amu amy awo yrm ywt yod ykp ybs (d + 1) (nI a) (nI j) := by
  intro d
  induction d with
  | zero =>
    intro j a hj ha
    have e : a = pm := by
      refine Nat.eq_of_testBit_eq fun i => ?_
      rw [ha i]
      by_cases h : i < j
      · rw [decide_eq_true h, Bool.true_and]
      · rw [decide_eq_false h, Bool.false_and]
        have : pm < 2 ^ i := Nat.lt_of_lt_of_le hpm (Nat.pow_le_pow_right (n := 2) (i := 6) (by decide) (by omega))
        exact (Nat.testBit_lt_two_pow this).symm
    subst e
    exact br_t (nI_le (a := 6) (by omega) (by omega)) K
  | succ d ih =>
    intro j a hj ha
    refine br_f (nI_ge (b := 6) (by omega) (by decide)) (And.intro (vp_in_nI (by omega) (by omega)) (yt_b ht (by omega) (fun hp => ?_) (fun hp => ?_)))
    · have e0 : nI a ||| 0 = nI a := by
        show nI a ||| nI 0 = nI a
        rw [zi_or, Nat.or_zero]
      rw [e0]
      refine nm_e (nm_r (nI_1 j) (ih (j + 1) a (by omega) (fun i => ?_)))
      rw [ha i]
      by_cases e : i = j
      · subst e; rw [hp, Bool.and_false, Bool.and_false]
      · by_cases l : i < j
        · rw [decide_eq_true l, decide_eq_true (by omega)]
        · rw [decide_eq_false l, decide_eq_false (by omega)]
    · rw [zi_sh (by omega), zi_or]
      refine nm_e (nm_r (nI_1 j) (ih (j + 1) _ (by omega) (fun i => ?_)))
      rw [ll_or, ha i]
      by_cases e : i = j
      · subst e; rw [hp, decide_eq_true rfl, Bool.or_true, decide_eq_true (by omega)]; rfl
      · rw [show decide (j = i) = false from decide_eq_false (fun z => e z.symm), Bool.or_false]
        by_cases l : i < j
        · rw [decide_eq_true l, decide_eq_true (by omega)]
        · rw [decide_eq_false l, decide_eq_false (by omega)]
end
theorem i_vc_tasks {k : Nat} {u : SX} {v : SY} (I : i_Rel k u v) (hk : k + 4 ≤ 2048) : wpX_tasks (fun r => wpY_tasks (fun r' => r' = r ∧ i_Rel (k + 4) u v) v) u := by
  refine rl_el (P := fun u v => wpX_tasks (fun r => wpY_tasks (fun r' => r' = r ∧ i_Rel (k + 4) u v) v) u) ?_ I
  intro pm bm fr un mu ma wo vsh vrc vle vkn vll afr aun amu amy awo aow aln agu awb aku afp atg wct yth yrm ywt yod ykp ybs R
  exact ⟨7, yw_tasks_l R.2.2.2.1 R.1 ⟨rfl, rl_in R⟩ 6 0 0 (by omega) (fun i => by rw [Nat.zero_testBit, decide_eq_false (by omega)]; rfl)⟩
theorem i_vc_blocked {k : Nat} {u : SX} {v : SY} (I : i_Rel k u v) (hk : k + 4 ≤ 2048) : wpX_blocked (fun r => wpY_blocked (fun r' => r' = r ∧ i_Rel (k + 4) u v) v) u := by
  refine rl_el (P := fun u v => wpX_blocked (fun r => wpY_blocked (fun r' => r' = r ∧ i_Rel (k + 4) u v) v) u) ?_ I
  intro pm bm fr un mu ma wo vsh vrc vle vkn vll afr aun amu amy awo aow aln agu awb aku afp atg wct yth yrm ywt yod ykp ybs R
  exact ⟨rfl, rl_in R⟩
theorem i_vc_loss {k : Nat} {u : SX} {v : SY} (I : i_Rel k u v) (hk : k + 4 ≤ 2048) : wpX_loss (fun r u' => wpY_loss (fun r' v' => r' = r ∧ i_Rel (k + 4) u' v') v) u := by
  refine rl_el (P := fun u v => wpX_loss (fun r u' => wpY_loss (fun r' v' => r' = r ∧ i_Rel (k + 4) u' v') v) u) ?_ I
  intro pm bm fr un mu ma wo vsh vrc vle vkn vll afr aun amu amy awo aow aln agu awb aku afp atg wct yth yrm ywt yod ykp ybs R
  obtain ⟨hpm, hbm, ok, ht, hH, hkn⟩ := R
  unfold wpX_loss
  dsimp only
  refine xw_learn hpm ok hbm hH hkn (fun sh ll rc le ow al ag aw ku fp tg hq => ?_)
  obtain ⟨ks, G, hu, hl, hp⟩ := hq
  dsimp only
  unfold wpY_loss
  dsimp only
  refine yw_try ok ht hbm G (fun ct rm wt od kp bs hb => ⟨?_, rl_in ⟨hpm, hbm, ok, ht, hH, Or.inr ⟨rfl, ks, G, hu, hl, hp⟩⟩⟩)
  exact hl.symm
theorem rl_take {pm bm j : Nat} {fr un mu : Nat → Nat} (H : im_H (im_g pm fr un bm) (im_cm pm mu)) : im_H (im_g (zi_d pm (2 ^ j)) fr un bm) (im_cm (zi_d pm (2 ^ j)) mu) := by
  intro S hS
  have hS' : zi_d S (2 ^ j) < 64 := zi_dlt (n := 6) hS
  have a := H _ hS'
  have b : im_dm (im_cm (zi_d pm (2 ^ j)) mu) S = im_dm (im_cm pm mu) (zi_d S (2 ^ j)) := by
    refine im_s_c fun i _ => ?_
    unfold im_cm
    rw [zi_dt, zi_dt]
    cases S.testBit i <;> cases pm.testBit i <;> cases (2 ^ j).testBit i <;> rfl
  have c : im_rm (im_g pm fr un bm) (zi_d S (2 ^ j)) ≤ im_rm (im_g (zi_d pm (2 ^ j)) fr un bm) S := by
    refine im_s_le fun t _ => im_tn_le fun z => ?_
    rw [im_nb_i] at z ⊢
    obtain ⟨i, hi, hb, hg⟩ := z
    rw [zi_dt, Bool.and_eq_true] at hb
    rw [im_g_i] at hg
    exact ⟨i, hi, hb.1, im_g_i.mpr ⟨by rw [zi_dt, hg.1, hb.2]; rfl, hg.2⟩⟩
  omega
theorem i_vc_take {k : Nat} {u : SX} {v : SY} (I : i_Rel k u v) (hk : k + 4 ≤ 2048) (v1 : Int32) : wpX_take (fun r u' => wpY_take (fun r' v' => r' = r ∧ i_Rel (k + 4) u' v') v v1) u v1 := by
  refine rl_el (P := fun u v => wpX_take (fun r u' => wpY_take (fun r' v' => r' = r ∧ i_Rel (k + 4) u' v') v v1) u v1) ?_ I
  intro pm bm fr un mu ma wo vsh vrc vle vkn vll afr aun amu amy awo aow aln agu awb aku afp atg wct yth yrm ywt yod ykp ybs R
  have R' := R
  obtain ⟨hpm, hbm, ok, ht, hH, hkn⟩ := R'
  unfold wpX_take
  dsimp only
  have no : (v1 < 0 ∨ nI 6 ≤ v1) ∨ ∃ j, j < 6 ∧ v1 = nI j := by
    rcases pk_ix v1 (n := 6) (by decide) with z | z | z
    · exact Or.inl (Or.inl z)
    · exact Or.inl (Or.inr z)
    · exact Or.inr z
  rcases no with z | ⟨j, hj, rfl⟩
  · refine xw_has0 z (br_t rfl ?_)
    unfold wpY_take
    dsimp only
    exact yw_is0 z (br_t rfl ⟨rfl, rl_in R⟩)
  · have cj : (nI j).toNatClampNeg = j := zi_cl
    refine xw_has hj hpm (fun hP => ?_) (fun hP => ?_)
    · rw [zi_sh (by omega), zi_clr]
      refine br_f (by decide) (nm_e ?_)
      unfold wpY_take
      dsimp only
      refine yw_is hj ht (fun _ => br_f (by decide) (And.intro (vp_in_nI hj (by omega)) ?_)) (fun h => by rw [hP] at h; cases h)
      rw [cj]
      refine nm_e ⟨rfl, rl_in ⟨zi_dlt (n := 6) hpm, hbm, ok, fun i hi => ?_, rl_take hH, Or.inl rfl⟩⟩
      rw [zi_dt, zi_t2]
      by_cases e : i = j
      · subst e; rw [pk_us, decide_eq_true rfl, Bool.not_true, Bool.and_false]; rfl
      · rw [pk_un e, decide_eq_false (fun y => e y.symm), Bool.not_false, Bool.and_true]
        exact ht i hi
    · refine br_t rfl ?_
      unfold wpY_take
      dsimp only
      exact yw_is hj ht (fun h => by rw [hP] at h; cases h) (fun _ => br_t rfl ⟨rfl, rl_in R⟩)
end
section
/-! block, change, bring -/
def bk_b (bm t : Nat) (p : Int32) : Nat := if p = 0 then zi_d bm (2 ^ t) else bm ||| 2 ^ t
theorem bk_lt {bm t : Nat} {p : Int32} (hbm : bm < 2 ^ 24) (ht : t < 24) : bk_b bm t p < 2 ^ 24 := by
  unfold bk_b
  split
  · exact zi_dlt hbm
  · exact Nat.or_lt_two_pow hbm (Nat.pow_lt_pow_right (by decide) ht)
section
variable {vpr vbl vsh vrc vle vkn vll : Int32} {afr aun amu amy awo aow aln agu awb aku afp atg : Nat → Int32}
variable {fr un mu ma wo : Nat → Nat} {pm bm : Nat}
theorem xw_block {post : Int32 → SX → Prop} {t : Nat} {p : Int32} (hpm : pm < 64) (ok : xa_ok fr un mu ma wo afr aun amu amy awo) (hbm : bm < 2 ^ 24) (ht : t < 24)
    (K1 : ∀ sh rc le (ow al ag aw : Nat → Int32), im_H (im_g pm fr un (bk_b bm t p)) (im_cm pm mu) → post (nI t) (nI pm, nI (bk_b bm t p), sh, rc, le, 0, vll, afr, aun, amu, amy, awo, ow, al, ag, aw, aku, afp, atg))
    (K0 : ∀ sh rc le (ow al ag aw : Nat → Int32), ¬ im_H (im_g pm fr un (bk_b bm t p)) (im_cm pm mu) → post (-3) (nI pm, nI bm, sh, rc, le, vkn, vll, afr, aun, amu, amy, awo, ow, al, ag, aw, aku, afp, atg)) :
    wpX_block post (nI pm, nI bm, vsh, vrc, vle, vkn, vll, afr, aun, amu, amy, awo, aow, aln, agu, awb, aku, afp, atg) (nI t) p := by
  have key : wX_block_43 post (nI t) (nI bm) (nI (bk_b bm t p)) (nI pm) (nI bm) vsh vrc vle vkn vll afr aun amu amy awo aow aln agu awb aku afp atg := by
    unfold wX_block_43
    exact xw_possible hpm ok (bk_lt hbm ht) (fun sh rc le ow al ag aw H => br_f (by decide) (K1 _ _ _ _ _ _ _ H)) (fun sh rc le ow al ag aw H => br_t rfl (K0 _ _ _ _ _ _ _ H))
  unfold wpX_block
  dsimp only
  rw [zi_sh (by omega), zi_clr, zi_or]
  unfold bk_b at key
  refine br_f (nI_pos (by omega)) (br_t (nI_lt (b := 24) ht (by decide)) (br_c (fun z => ?_) (fun z => ?_)))
  · rw [if_pos z] at key; exact key
  · rw [if_neg z] at key; exact key
end
section
variable {wsh wct : Int32} {yth afr aun amu amy awo yrm ywt yod ykp ybs : Nat → Int32}
variable {fr un mu ma wo : Nat → Nat} {pm bm : Nat}
theorem yw_block {post : Int32 → SY → Prop} {t : Nat} {p : Int32} (ok : xa_ok fr un mu ma wo afr aun amu amy awo) (hth : yt_ok pm yth) (hbm : bm < 2 ^ 24) (ht : t < 24)
    (K1 : ∀ rm wt : Nat → Int32, im_H (im_g pm fr un (bk_b bm t p)) (im_cm pm mu) → post (nI t) (nI (bk_b bm t p), wct, yth, afr, aun, amu, amy, awo, rm, wt, yod, ykp, ybs))
    (K0 : ∀ rm wt : Nat → Int32, ¬ im_H (im_g pm fr un (bk_b bm t p)) (im_cm pm mu) → post (-3) (nI bm, wct, yth, afr, aun, amu, amy, awo, rm, wt, yod, ykp, ybs)) :
    wpY_block post (nI bm, wct, yth, afr, aun, amu, amy, awo, yrm, ywt, yod, ykp, ybs) (nI t) p := by
  have key : wY_block_43 post (nI t) (nI bm) (nI (bk_b bm t p)) (nI bm) wct yth afr aun amu amy awo yrm ywt yod ykp ybs := by
    unfold wY_block_43
    exact yw_fits ok hth (bk_lt hbm ht) (fun rm wt H => br_f (by decide) (K1 _ _ H)) (fun rm wt H => br_t rfl (K0 _ _ H))
  unfold wpY_block
  dsimp only
  rw [zi_sh (by omega), zi_clr, zi_or]
  unfold bk_b at key
  refine br_f (nI_pos (by omega)) (br_t (nI_le (b := 23) (by omega) (by decide)) (br_c (fun z => ?_) (fun z => ?_)))
  · rw [if_pos z] at key; exact key
  · rw [if_neg z] at key; exact key
end
theorem i_vc_block {k : Nat} {u : SX} {v : SY} (I : i_Rel k u v) (hk : k + 4 ≤ 2048) (v1 : Int32) (v2 : Int32) : wpX_block (fun r u' => wpY_block (fun r' v' => r' = r ∧ i_Rel (k + 4) u' v') v v1 (lw_bz v2)) u v1 (lw_bz v2) := by
  refine rl_el (P := fun u v => wpX_block (fun r u' => wpY_block (fun r' v' => r' = r ∧ i_Rel (k + 4) u' v') v v1 (lw_bz v2)) u v1 (lw_bz v2)) ?_ I
  intro pm bm fr un mu ma wo vsh vrc vle vkn vll afr aun amu amy awo aow aln agu awb aku afp atg wct yth yrm ywt yod ykp ybs R
  have R' := R
  obtain ⟨hpm, hbm, ok, ht, hH, hkn⟩ := R'
  rcases pk_ix v1 (n := 24) (by decide) with z | z | ⟨t, h24, rfl⟩
  · exact br_t z (br_t z ⟨rfl, rl_in R⟩)
  · have h0 : ¬ v1 < 0 := fun y => absurd (Int32.lt_of_le_of_lt z y) (by decide)
    have h1 : ¬ v1 < 24 := Int32.not_lt.mpr z
    have h2 : ¬ v1 ≤ 23 := fun y => absurd (Int32.le_trans z y) (by decide)
    exact br_f h0 (br_f h1 (br_f h0 (br_f h2 ⟨rfl, rl_in R⟩)))
  · exact xw_block hpm ok hbm h24
      (fun sh rc le ow al ag aw H => yw_block ok ht hbm h24 (fun rm wt H2 => ⟨rfl, rl_in ⟨hpm, bk_lt hbm h24, ok, ht, H, Or.inl rfl⟩⟩) (fun rm wt H2 => absurd H H2))
      (fun sh rc le ow al ag aw H => yw_block ok ht hbm h24 (fun rm wt H2 => absurd H2 H) (fun rm wt H2 => ⟨rfl, rl_in R⟩))
theorem xa_u {fr un mu ma wo : Nat → Nat} {afr aun amu amy awo : Nat → Int32} {j m y w : Nat} (ok : xa_ok fr un mu ma wo afr aun amu amy awo) (hm : m ≤ 6) (hy : y ≤ 6) (hw : w ≤ 9) : xa_ok fr un (im_u mu j m) (im_u ma j y) (im_u wo j w) afr aun (upd amu j (nI m)) (upd amy j (nI y)) (upd awo j (nI w)) := by
  intro i hi
  have o := ok i hi
  by_cases e : i = j
  · subst e
    rw [pk_us, pk_us, pk_us, im_us, im_us, im_us]
    exact ⟨o.1, o.2.1, ⟨rfl, hm⟩, ⟨rfl, hy⟩, ⟨rfl, hw⟩⟩
  · rw [pk_un e, pk_un e, pk_un e, im_un' e, im_un' e, im_un' e]
    exact o
theorem xa_u2 {fr un mu ma wo : Nat → Nat} {afr aun amu amy awo : Nat → Int32} {j r d : Nat} (ok : xa_ok fr un mu ma wo afr aun amu amy awo) (hr : r ≤ 24) (hd : d ≤ 24) : xa_ok (im_u fr j r) (im_u un j d) mu ma wo (upd afr j (nI r)) (upd aun j (nI d)) amu amy awo := by
  intro i hi
  have o := ok i hi
  by_cases e : i = j
  · subst e
    rw [pk_us, pk_us, im_us, im_us]
    exact ⟨⟨rfl, hr⟩, ⟨rfl, hd⟩, o.2.2⟩
  · rw [pk_un e, pk_un e, im_un' e, im_un' e]
    exact o
theorem xa_back {a : Nat → Int32} {j : Nat} {x y : Int32} (h : a j = y) : upd (upd a j x) j y = a := by
  funext i
  by_cases e : i = j
  · subst e; rw [pk_us, h]
  · rw [pk_un e, pk_un e]
theorem i_vc_change {k : Nat} {u : SX} {v : SY} (I : i_Rel k u v) (hk : k + 4 ≤ 2048) (v1 : Int32) (v2 : Int32) : wpX_change (fun r u' => wpY_change (fun r' v' => r' = r ∧ i_Rel (k + 4) u' v') v v1 v2) u v1 v2 := by
  refine rl_el (P := fun u v => wpX_change (fun r u' => wpY_change (fun r' v' => r' = r ∧ i_Rel (k + 4) u' v') v v1 v2) u v1 v2) ?_ I
  intro pm bm fr un mu ma wo vsh vrc vle vkn vll afr aun amu amy awo aow aln agu awb aku afp atg wct yth yrm ywt yod ykp ybs R
  have R' := R
  obtain ⟨hpm, hbm, ok, ht, hH, hkn⟩ := R'
  unfold wpX_change
  dsimp only
  have no : (v1 < 0 ∨ nI 6 ≤ v1) ∨ ∃ j, j < 6 ∧ v1 = nI j := by
    rcases pk_ix v1 (n := 6) (by decide) with z | z | z
    · exact Or.inl (Or.inl z)
    · exact Or.inl (Or.inr z)
    · exact Or.inr z
  rcases no with z | ⟨j, hj, rfl⟩
  · refine xw_has0 z (br_t rfl ?_)
    unfold wpY_change
    dsimp only
    exact yw_is0 z (br_t rfl ⟨rfl, rl_in R⟩)
  · have cj : (nI j).toNatClampNeg = j := zi_cl
    have hij : vp_in (nI j) 6 := vp_in_nI hj (by omega)
    have oj := ok j hj
    refine xw_has hj hpm (fun hP => ?_) (fun hP => ?_)
    · refine br_f (by decide) (xw_pack (fun m y w hv hw => ?_) (fun hn => ?_))
      · have hvo := pa_old oj.2.2.1.2 oj.2.2.2.1.2 oj.2.2.2.2.2
        have ok' := xa_u (j := j) ok hv.2.2.2.1 hv.2.2.2.2.1 hv.2.2.2.2.2
        have bk1 := xa_back (x := nI m) oj.2.2.1.1
        have bk2 := xa_back (x := nI y) oj.2.2.2.1.1
        have bk3 := xa_back (x := nI w) oj.2.2.2.2.1
        refine br_f (by decide) (And.intro hij (And.intro hij (And.intro hij ?_)))
        rw [cj, oj.2.2.1.1, oj.2.2.2.1.1, oj.2.2.2.2.1]
        refine nm_e (xw_unpack hj hv ?_)
        refine xw_possible hpm ok' hbm (fun sh rc le ow al ag aw H => ?_) (fun sh rc le ow al ag aw H => ?_)
        · refine br_f (by decide) ?_
          unfold wpY_change
          dsimp only
          refine yw_is hj ht (fun _ => br_f (by decide) (yw_form (fun _ _ _ _ _ => ?_) (fun h => absurd ⟨m, y, w, hv, hw⟩ h))) (fun h => by rw [hP] at h; cases h)
          refine br_f (by decide) (And.intro hij (And.intro hij (And.intro hij (nm_e (yw_hold hj hv ?_)))))
          exact yw_fits ok' ht hbm (fun rm wt H2 => br_f (by decide) ⟨rfl, rl_in ⟨hpm, hbm, ok', ht, H, Or.inl rfl⟩⟩) (fun rm wt H2 => absurd H H2)
        · refine br_t rfl (xw_unpack hj hvo ?_)
          rw [bk1, bk2, bk3]
          unfold wpY_change
          dsimp only
          refine yw_is hj ht (fun _ => br_f (by decide) (yw_form (fun _ _ _ _ _ => ?_) (fun h => absurd ⟨m, y, w, hv, hw⟩ h))) (fun h => by rw [hP] at h; cases h)
          refine br_f (by decide) (And.intro hij (And.intro hij (And.intro hij ?_)))
          rw [cj, oj.2.2.1.1, oj.2.2.2.1.1, oj.2.2.2.2.1]
          refine nm_e (yw_hold hj hv ?_)
          refine yw_fits ok' ht hbm (fun rm wt H2 => absurd H2 H) (fun rm wt H2 => br_t rfl (yw_hold hj hvo ?_))
          rw [bk1, bk2, bk3]
          exact ⟨rfl, rl_in ⟨hpm, hbm, ok, ht, hH, Or.inl rfl⟩⟩
      · refine br_t rfl ?_
        unfold wpY_change
        dsimp only
        exact yw_is hj ht (fun _ => br_f (by decide) (yw_form (fun m y w hv hw => absurd ⟨m, y, w, hv, hw⟩ hn) (fun _ => br_t rfl ⟨rfl, rl_in R⟩))) (fun h => by rw [hP] at h; cases h)
    · refine br_t rfl ?_
      unfold wpY_change
      dsimp only
      exact yw_is hj ht (fun h => by rw [hP] at h; cases h) (fun _ => br_t rfl ⟨rfl, rl_in R⟩)
end
section
/-! bring -/
theorem bg_fd (pm : Nat) : ∀ n, ∃ j, j ≤ n ∧ (∀ i, i < j → pm.testBit i = true) ∧ (j = n ∨ (j < n ∧ pm.testBit j = false))
  | 0 => ⟨0, Nat.le_refl _, fun i hi => by omega, Or.inl rfl⟩
  | n + 1 => by
    obtain ⟨j, hj, ha, h⟩ := bg_fd pm n
    rcases h with e | h
    · subst e
      cases hp : pm.testBit j
      · exact ⟨j, by omega, ha, Or.inr ⟨by omega, hp⟩⟩
      · refine ⟨j + 1, Nat.le_refl _, fun i hi => ?_, Or.inl rfl⟩
        rcases Nat.lt_or_ge i j with z | z
        · exact ha i z
        · have e : i = j := by omega
          subst e; exact hp
    · exact ⟨j, by omega, ha, Or.inr ⟨by omega, h.2⟩⟩
theorem bg_n1 : vp_nar .boolean 1 = nI 1 := rfl
theorem bg_n0 : vp_nar .boolean 0 = nI 0 := rfl
theorem bg_clr {pm j : Nat} (h : pm.testBit j = false) : zi_d (pm ||| 2 ^ j) (2 ^ j) = pm := by
  refine Nat.eq_of_testBit_eq fun i => ?_
  rw [zi_dt, ll_or, zi_t2]
  by_cases e : j = i
  · subst e; rw [h]; simp
  · rw [decide_eq_false e]; simp
theorem bg_y1 {pm j : Nat} {yth : Nat → Int32} {x : Int32} (h : yt_ok pm yth) : yt_ok (pm ||| 2 ^ j) (upd (upd yth j x) j (nI 1)) := by
  intro i hi
  rw [ll_or]
  by_cases e : i = j
  · subst e; rw [pk_us, decide_eq_true rfl, Bool.or_true]; rfl
  · rw [pk_un e, pk_un e, decide_eq_false (fun z => e z.symm), Bool.or_false]; exact h i hi
theorem bg_y1' {pm j : Nat} {yth : Nat → Int32} (h : yt_ok pm yth) : yt_ok (pm ||| 2 ^ j) (upd yth j (nI 1)) := by
  intro i hi
  rw [ll_or]
  by_cases e : i = j
  · subst e; rw [pk_us, decide_eq_true rfl, Bool.or_true]; rfl
  · rw [pk_un e, decide_eq_false (fun z => e z.symm), Bool.or_false]; exact h i hi
theorem bg_y0 {pm j : Nat} {yth : Nat → Int32} {x : Int32} (h : yt_ok pm yth) (hp : pm.testBit j = false) : yt_ok pm (upd (upd yth j x) j (nI 0)) := by
  intro i hi
  by_cases e : i = j
  · subst e; rw [pk_us, hp]; rfl
  · rw [pk_un e, pk_un e]; exact h i hi
theorem bg_H {pm bm j r d m : Nat} {fr un mu : Nat → Nat} (hp : pm.testBit j = false) (H : im_H (im_g pm fr un bm) (im_cm pm mu)) : im_H (im_g pm (im_u fr j r) (im_u un j d) bm) (im_cm pm (im_u mu j m)) := by
  refine (im_H_gc (g := im_g pm fr un bm) fun i t _ _ => ?_).mp ((im_H_c (c := im_cm pm mu) fun i _ => ?_).mp H)
  · unfold im_g
    by_cases e : i = j
    · subst e; rw [hp]; rfl
    · rw [im_un' e, im_un' e]
  · unfold im_cm
    by_cases e : i = j
    · subst e; rw [hp]; rfl
    · rw [im_un' e]
section
variable {vpr vbl vsh vrc vle vkn vll : Int32} {afr aun amu amy awo aow aln agu awb aku afp atg : Nat → Int32}
variable {wsh wct : Int32} {yth yrm ywt yod ykp ybs : Nat → Int32}
variable {fr un mu ma wo : Nat → Nat} {pm bm : Nat}
theorem xw_bring_l {post : Int32 → SX → Prop} {x1 x2 x3 : Int32} {j0 : Nat} (hpm : pm < 64) (h6 : j0 ≤ 6) (hall : ∀ i, i < j0 → pm.testBit i = true) (hb : wX_bring_27 post x1 x2 x3 (nI pm) vbl vsh vrc vle vkn vll afr aun amu amy awo aow aln agu awb aku afp atg 1 (nI j0)) : ∀ d j, j + d = j0 → wX_bring_27 post x1 x2 x3 (nI pm) vbl vsh vrc vle vkn vll afr aun amu amy awo aow aln agu awb aku afp atg (d + 1) (nI j) := by
  intro d
  induction d with
  | zero =>
    intro j hj
    have e : j = j0 := by omega
    subst e; exact hb
  | succ d ih =>
    intro j hj
    exact br_f (nI_ge (b := 6) (by omega) (by decide)) (xw_has (by omega) hpm (fun _ => br_f (by decide) (nm_r (nI_1 j) (ih (j + 1) (by omega)))) (fun h => by rw [hall j (by omega)] at h; cases h))
theorem yw_bring_l {post : Int32 → SY → Prop} {x1 x2 x3 : Int32} {j0 : Nat} (ht : yt_ok pm yth) (h6 : j0 ≤ 6) (hall : ∀ i, i < j0 → pm.testBit i = true) (hb : wY_bring_28 post x1 x2 x3 wsh wct yth afr aun amu amy awo yrm ywt yod ykp ybs 1 (nI j0)) : ∀ d j, j + d = j0 → wY_bring_28 post x1 x2 x3 wsh wct yth afr aun amu amy awo yrm ywt yod ykp ybs (d + 1) (nI j) := by
  intro d
  induction d with
  | zero =>
    intro j hj
    have e : j = j0 := by omega
    subst e; exact hb
  | succ d ih =>
    intro j hj
    exact br_f (nI_ge (b := 6) (by omega) (by decide)) (And.intro (vp_in_nI (by omega) (by omega)) (yt_b ht (by omega) (fun h => by rw [hall j (by omega)] at h; cases h) (fun _ => nm_r (nI_1 j) (ih (j + 1) (by omega)))))
theorem xw_bring_b {post : Int32 → SX → Prop} {p : Int32} {j r d m y w : Nat} (hpm : pm < 64) (ok : xa_ok fr un mu ma wo afr aun amu amy awo) (hbm : bm < 2 ^ 24) (hj : j < 6) (hP : pm.testBit j = false) (hr : r ≤ 24) (hd : d ≤ 24) (hv : pa_v p m y w)
    (K1 : ∀ sh rc le (ow al ag aw : Nat → Int32), im_H (im_g (pm ||| 2 ^ j) (im_u fr j r) (im_u un j d) bm) (im_cm (pm ||| 2 ^ j) (im_u mu j m)) → post (nI j) (nI (pm ||| 2 ^ j), nI bm, sh, rc, le, 0, vll, upd afr j (nI r), upd aun j (nI d), upd amu j (nI m), upd amy j (nI y), upd awo j (nI w), ow, al, ag, aw, aku, afp, atg))
    (K0 : ∀ sh rc le (ow al ag aw : Nat → Int32), ¬ im_H (im_g (pm ||| 2 ^ j) (im_u fr j r) (im_u un j d) bm) (im_cm (pm ||| 2 ^ j) (im_u mu j m)) → post (-3) (nI pm, nI bm, sh, rc, le, 0, vll, upd afr j (nI r), upd aun j (nI d), upd amu j (nI m), upd amy j (nI y), upd awo j (nI w), ow, al, ag, aw, aku, afp, atg)) :
    wX_bring_27 post (nI r) (nI d) p (nI pm) (nI bm) vsh vrc vle vkn vll afr aun amu amy awo aow aln agu awb aku afp atg 1 (nI j) := by
  have cj : (nI j).toNatClampNeg = j := zi_cl
  have hij : vp_in (nI j) 6 := vp_in_nI hj (by omega)
  have hp2 : 2 ^ j < 64 := Nat.pow_lt_pow_right (a := 2) (m := j) (n := 6) (by decide) hj
  have ok' := xa_u (j := j) (xa_u2 (j := j) ok hr hd) hv.2.2.2.1 hv.2.2.2.2.1 hv.2.2.2.2.2
  refine br_f (nI_ge (b := 6) hj (by decide)) (xw_has hj hpm (fun h => by rw [hP] at h; cases h) (fun _ => br_t rfl ?_))
  rw [zi_sh (by omega), zi_or, cj, zi_nb r (by omega), zi_nb d (by omega)]
  refine nm_e (And.intro hij (nm_e (And.intro hij (nm_e (xw_unpack hj hv ?_)))))
  refine xw_possible (im_or64 hpm hp2) ok' hbm (fun sh rc le ow al ag aw H => br_f (by decide) (K1 _ _ _ _ _ _ _ H)) (fun sh rc le ow al ag aw H => br_t rfl ?_)
  rw [zi_clr, bg_clr hP]
  exact nm_e (K0 _ _ _ _ _ _ _ H)
theorem yw_bring_b {post : Int32 → SY → Prop} {p : Int32} {j r d m y w : Nat} (hth : yt_ok pm yth) (ok : xa_ok fr un mu ma wo afr aun amu amy awo) (hbm : bm < 2 ^ 24) (hj : j < 6) (hP : pm.testBit j = false) (hr : r ≤ 24) (hd : d ≤ 24) (hv : pa_v p m y w)
    (K1 : ∀ th rm wt : Nat → Int32, yt_ok (pm ||| 2 ^ j) th → im_H (im_g (pm ||| 2 ^ j) (im_u fr j r) (im_u un j d) bm) (im_cm (pm ||| 2 ^ j) (im_u mu j m)) → post (nI j) (nI bm, wct, th, upd afr j (nI r), upd aun j (nI d), upd amu j (nI m), upd amy j (nI y), upd awo j (nI w), rm, wt, yod, ykp, ybs))
    (K0 : ∀ th rm wt : Nat → Int32, yt_ok pm th → ¬ im_H (im_g (pm ||| 2 ^ j) (im_u fr j r) (im_u un j d) bm) (im_cm (pm ||| 2 ^ j) (im_u mu j m)) → post (-3) (nI bm, wct, th, upd afr j (nI r), upd aun j (nI d), upd amu j (nI m), upd amy j (nI y), upd awo j (nI w), rm, wt, yod, ykp, ybs)) :
    wY_bring_28 post (nI r) (nI d) p (nI bm) wct yth afr aun amu amy awo yrm ywt yod ykp ybs 1 (nI j) := by
  have cj : (nI j).toNatClampNeg = j := zi_cl
  have hij : vp_in (nI j) 6 := vp_in_nI hj (by omega)
  have ok' := xa_u (j := j) (xa_u2 (j := j) ok hr hd) hv.2.2.2.1 hv.2.2.2.2.1 hv.2.2.2.2.2
  refine br_f (nI_ge (b := 6) hj (by decide)) (And.intro hij (yt_b hth hj (fun _ => And.intro hij ?_) (fun h => by rw [hP] at h; cases h)))
  rw [cj, bg_n1]
  refine nm_e (And.intro hij (nm_e (And.intro hij (nm_e (yw_hold hj hv ?_)))))
  refine yw_fits ok' (bg_y1' hth) hbm (fun rm wt H => And.intro hij ?_) (fun rm wt H => And.intro hij ?_)
  · rw [bg_n1]
    refine nm_e (And.intro hij ?_)
    rw [pk_us]
    exact br_f (by decide) (K1 _ _ _ (bg_y1 hth) H)
  · rw [bg_n0]
    refine nm_e (And.intro hij ?_)
    rw [pk_us]
    exact br_t rfl (K0 _ _ _ (bg_y0 hth hP) H)
end
theorem i_vc_bring {k : Nat} {u : SX} {v : SY} (I : i_Rel k u v) (hk : k + 4 ≤ 2048) (v1 : Int32) (v2 : Int32) (v3 : Int32) : wpX_bring (fun r u' => wpY_bring (fun r' v' => r' = r ∧ i_Rel (k + 4) u' v') v v1 v2 v3) u v1 v2 v3 := by
  refine rl_el (P := fun u v => wpX_bring (fun r u' => wpY_bring (fun r' v' => r' = r ∧ i_Rel (k + 4) u' v') v v1 v2 v3) u v1 v2 v3) ?_ I
  intro pm bm fr un mu ma wo vsh vrc vle vkn vll afr aun amu amy awo aow aln agu awb aku afp atg wct yth yrm ywt yod ykp ybs R
  have R' := R
  obtain ⟨hpm, hbm, ok, ht, hH, hkn⟩ := R'
  by_cases a : v1 < 0
  · exact br_t a (br_t a ⟨rfl, rl_in R⟩)
  by_cases b : 24 < v2
  · exact br_f a (br_t b (br_f a (br_c (fun _ => ⟨rfl, rl_in R⟩) (fun _ => br_t b ⟨rfl, rl_in R⟩))))
  by_cases c : v2 ≤ v1
  · exact br_f a (br_f b (br_t c (br_f a (br_t c ⟨rfl, rl_in R⟩))))
  obtain ⟨r, hr, rfl⟩ := nI_of a
  have c0 : ¬ v2 < 0 := by
    intro z
    exact c (Int32.le_of_lt (Int32.lt_of_lt_of_le z (nI_pos' hr)))
  obtain ⟨d, hd, rfl⟩ := nI_of2 (M := 24) (n := 24) (by decide) c0 (Int32.not_lt.mp b)
  have hrd : r < d := by
    rw [nI_leI (by omega) hr] at c; omega
  refine br_f a (br_f b (br_f c (xw_pack (fun m y w hv hw => br_f (by decide) ?_) (fun hn => br_t rfl ?_))))
  · obtain ⟨j, h6, hall, hj⟩ := bg_fd pm 6
    rcases hj with e | ⟨hj, hP⟩
    · subst e
      refine ⟨7, xw_bring_l hpm (Nat.le_refl _) hall (br_t (nI_le (a := 6) (b := 6) (by omega) (by decide)) ?_) 6 0 (by omega)⟩
      refine br_f a (br_f c (br_f b (yw_form (fun _ _ _ _ _ => br_f (by decide) ⟨7, ?_⟩) (fun h => absurd ⟨m, y, w, hv, hw⟩ h))))
      exact yw_bring_l ht (Nat.le_refl _) hall (br_t (nI_le (a := 6) (b := 6) (by omega) (by decide)) ⟨rfl, rl_in R⟩) 6 0 (by omega)
    · have ok' := xa_u (j := j) (xa_u2 (j := j) (r := r) (d := d) ok (by omega) hd) hv.2.2.2.1 hv.2.2.2.2.1 hv.2.2.2.2.2
      have hp2 : 2 ^ j < 64 := Nat.pow_lt_pow_right (a := 2) (m := j) (n := 6) (by decide) hj
      refine ⟨_, xw_bring_l hpm h6 hall (xw_bring_b hpm ok hbm hj hP (by omega) hd hv (fun sh rc le ow al ag aw H => ?_) (fun sh rc le ow al ag aw H => ?_)) j 0 (by omega)⟩
      · refine br_f a (br_f c (br_f b (yw_form (fun _ _ _ _ _ => br_f (by decide) ⟨j + 1, ?_⟩) (fun h => absurd ⟨m, y, w, hv, hw⟩ h))))
        exact yw_bring_l ht h6 hall (yw_bring_b ht ok hbm hj hP (by omega) hd hv (fun th rm wt hth H2 => ⟨rfl, rl_in ⟨im_or64 hpm hp2, hbm, ok', hth, H, Or.inl rfl⟩⟩) (fun th rm wt hth H2 => absurd H H2)) j 0 (by omega)
      · refine br_f a (br_f c (br_f b (yw_form (fun _ _ _ _ _ => br_f (by decide) ⟨j + 1, ?_⟩) (fun h => absurd ⟨m, y, w, hv, hw⟩ h))))
        exact yw_bring_l ht h6 hall (yw_bring_b ht ok hbm hj hP (by omega) hd hv (fun th rm wt hth H2 => absurd H2 H) (fun th rm wt hth H2 => ⟨rfl, rl_in ⟨hpm, hbm, ok', hth, bg_H hP hH, Or.inl rfl⟩⟩)) j 0 (by omega)
  · exact br_f a (br_f c (br_f b (yw_form (fun m y w hv hw => absurd ⟨m, y, w, hv, hw⟩ hn) (fun _ => br_t rfl ⟨rfl, rl_in R⟩))))
end
section
/-! kept, at, idle -/
theorem kn_le {pm bm : Nat} {fr un mu ma wo ks : Nat → Nat} {afr aun amu amy awo : Nat → Int32} (ok : xa_ok fr un mu ma wo afr aun amu amy awo) (G : im_GS (im_g pm fr un bm) (im_P pm) (im_cm pm mu) ma wo ks) {bs : Nat → Int32} (hb : ∀ j, j < 6 → pm.testBit j = true → bs j = nI (ks j)) : ∀ j, j < 6 → pm.testBit j = true → bs j = nI (ks j) ∧ ks j ≤ 6 := by
  intro j hj hp
  refine ⟨hb j hj hp, ?_⟩
  have := (G.2 j hj hp).1
  have := (ok j hj).2.2.2.1.2
  omega
theorem kn_no (v1 : Int32) : (v1 < 0 ∨ nI 6 ≤ v1) ∨ ∃ j, j < 6 ∧ v1 = nI j := by
  rcases pk_ix v1 (n := 6) (by decide) with z | z | z
  · exact Or.inl (Or.inl z)
  · exact Or.inl (Or.inr z)
  · exact Or.inr z
theorem i_vc_kept {k : Nat} {u : SX} {v : SY} (I : i_Rel k u v) (hk : k + 4 ≤ 2048) (v1 : Int32) : wpX_kept (fun r u' => wpY_kept (fun r' v' => r' = r ∧ i_Rel (k + 4) u' v') v v1) u v1 := by
  refine rl_el (P := fun u v => wpX_kept (fun r u' => wpY_kept (fun r' v' => r' = r ∧ i_Rel (k + 4) u' v') v v1) u v1) ?_ I
  intro pm bm fr un mu ma wo vsh vrc vle vkn vll afr aun amu amy awo aow aln agu awb aku afp atg wct yth yrm ywt yod ykp ybs R
  have R' := R
  obtain ⟨hpm, hbm, ok, ht, hH, hkn⟩ := R'
  unfold wpX_kept
  dsimp only
  rcases kn_no v1 with z | ⟨j, hj, rfl⟩
  · refine xw_has0 z (br_t rfl ?_)
    obtain ⟨ks, G⟩ := gx_GS (ma := ma) (wo := wo) hH
    unfold wpY_kept
    dsimp only
    exact yw_try ok ht hbm G (fun ct rm wt od kp bs hb => yw_is0 z (br_t rfl ⟨rfl, rl_in R⟩))
  · have cj : (nI j).toNatClampNeg = j := zi_cl
    have hij : vp_in (nI j) 6 := vp_in_nI hj (by omega)
    refine xw_has hj hpm (fun hP => br_f (by decide) ?_) (fun hP => br_t rfl ?_)
    · refine xw_learn hpm ok hbm hH hkn (fun sh ll rc le ow al ag aw ku fp tg hq => And.intro hij ?_)
      have hq' := hq
      obtain ⟨ks, G, hu, hl, hp⟩ := hq
      unfold wpY_kept
      dsimp only
      refine yw_try ok ht hbm G (fun ct rm wt od kp bs hb => yw_is hj ht (fun _ => br_f (by decide) (And.intro hij ⟨?_, rl_in ⟨hpm, hbm, ok, ht, hH, Or.inr ⟨rfl, hq'⟩⟩⟩)) (fun h => by rw [hP] at h; cases h))
      dsimp only
      rw [cj, hb j hj hP, hu j hj hP]
    · obtain ⟨ks, G⟩ := gx_GS (ma := ma) (wo := wo) hH
      unfold wpY_kept
      dsimp only
      exact yw_try ok ht hbm G (fun ct rm wt od kp bs hb => yw_is hj ht (fun h => by rw [hP] at h; cases h) (fun _ => br_t rfl ⟨rfl, rl_in R⟩))
theorem i_vc_at {k : Nat} {u : SX} {v : SY} (I : i_Rel k u v) (hk : k + 4 ≤ 2048) (v1 : Int32) : wpX_at (fun r u' => wpY_at (fun r' v' => r' = r ∧ i_Rel (k + 4) u' v') v v1) u v1 := by
  refine rl_el (P := fun u v => wpX_at (fun r u' => wpY_at (fun r' v' => r' = r ∧ i_Rel (k + 4) u' v') v v1) u v1) ?_ I
  intro pm bm fr un mu ma wo vsh vrc vle vkn vll afr aun amu amy awo aow aln agu awb aku afp atg wct yth yrm ywt yod ykp ybs R
  have R' := R
  obtain ⟨hpm, hbm, ok, ht, hH, hkn⟩ := R'
  unfold wpX_at
  dsimp only
  rcases pk_ix v1 (n := 24) (by decide) with z | z | ⟨t, h24, rfl⟩
  · refine br_t z ?_
    obtain ⟨ks, G⟩ := gx_GS (ma := ma) (wo := wo) hH
    unfold wpY_at
    dsimp only
    refine yw_try ok ht hbm G (fun ct rm wt od kp bs hb => ⟨7, ?_⟩)
    refine yw_at_in ok ht (kn_le ok G hb) (fun wt hT => ⟨1, br_t z (br_f (fun y => absurd (Int32.lt_of_le_of_lt y z) (by decide)) ⟨rfl, rl_in R⟩)⟩) 6 0 wt (by omega) (fun i hi => by omega)
  · have h0 : ¬ v1 < 0 := fun y => absurd (Int32.lt_of_le_of_lt z y) (by decide)
    obtain ⟨t, ht2, rfl⟩ := nI_of h0
    rw [nI_leI (by decide) ht2] at z
    refine br_f h0 (br_f (nI_nlt (b := 24) z ht2) ?_)
    obtain ⟨ks, G⟩ := gx_GS (ma := ma) (wo := wo) hH
    unfold wpY_at
    dsimp only
    refine yw_try ok ht hbm G (fun ct rm wt od kp bs hb => ⟨7, ?_⟩)
    refine yw_at_in ok ht (kn_le ok G hb) (fun wt hT => ⟨25, ?_⟩) 6 0 wt (by omega) (fun i hi => by omega)
    exact yw_at_big (w0 := im_pt (im_P pm) (im_cm pm mu) ks) ok ht hbm z ht2 (fun rm wt => ⟨rfl, rl_in R⟩) 24 0 _ _ _ (by omega) hT
  · refine br_f (nI_pos (by omega)) (br_t (nI_lt (b := 24) h24 (by decide)) ?_)
    refine xw_learn hpm ok hbm hH hkn (fun sh ll rc le ow al ag aw ku fp tg hq => And.intro (vp_in_nI h24 (by omega)) ?_)
    have hq' := hq
    obtain ⟨ks, G, hu, hl, hp⟩ := hq
    have ct : (nI t).toNatClampNeg = t := zi_cl
    dsimp only
    rw [ct, hp t h24]
    unfold wpY_at
    dsimp only
    refine yw_try ok ht hbm G (fun ct rm wt od kp bs hb => ⟨7, ?_⟩)
    refine yw_at_in ok ht (kn_le ok G hb) (fun wt hT => ⟨t + 2, ?_⟩) 6 0 wt (by omega) (fun i hi => by omega)
    exact yw_at_l (w0 := im_pt (im_P pm) (im_cm pm mu) ks) ok ht hbm h24 (fun rm wt => ⟨rfl, rl_in ⟨hpm, hbm, ok, ht, hH, Or.inr ⟨rfl, hq'⟩⟩⟩) (t + 1) 0 _ _ _ (by omega) hT (fun e => by omega)
def id_f (pm : Nat) (mu ks : Nat → Nat) (x : Int32) : Nat → Int32
  | 0 => x
  | j + 1 => if pm.testBit j = true then id_f pm mu ks x j - nI (mu j + ks j) else id_f pm mu ks x j
section
variable {vpr vbl vsh vrc vle vkn vll : Int32} {afr aun amu amy awo aow aln agu awb aku afp atg : Nat → Int32}
variable {wsh wct : Int32} {yth yrm ywt yod ykp ybs : Nat → Int32}
variable {fr un mu ma wo ks : Nat → Nat} {pm bm : Nat}
theorem xw_count_l {post : Int32 → Prop} {b : Nat} (hb : b < 2 ^ 31) (K : post (nI (im_s 24 (fun t => (b.testBit t).toNat)))) : ∀ d t, t + d = 24 → wX_count_4 post (nI b) (d + 1) (nI (im_s t (fun t => (b.testBit t).toNat))) (nI t) := by
  intro d
  induction d with
  | zero =>
    intro t ht
    have e : t = 24 := by omega
    subst e
    exact br_t (nI_le (a := 24) (by omega) (by omega)) K
  | succ d ih =>
    intro t ht
    refine br_f (nI_ge (b := 24) (by omega) (by decide)) ?_
    rw [zi_bt hb (by omega), nI_add]
    exact nm_e (nm_r (nI_1 t) (ih (t + 1) (by omega)))
theorem xw_count {post : Int32 → Prop} {b : Nat} (hb : b < 2 ^ 31) (K : post (nI (im_s 24 (fun t => (b.testBit t).toNat)))) : wpX_count post (nI b) :=
  ⟨25, xw_count_l hb K 24 0 (by omega)⟩
theorem xw_idle_l {post : Int32 → SX → Prop} {x : Int32} (hpm : pm < 64) (ok : xa_ok fr un mu ma wo afr aun amu amy awo) (hu : ∀ i, i < 6 → pm.testBit i = true → aku i = nI (ks i)) (K : post (id_f pm mu ks x 6) (nI pm, vbl, vsh, vrc, vle, vkn, vll, afr, aun, amu, amy, awo, aow, aln, agu, awb, aku, afp, atg)) : ∀ d j, j + d = 6 → wX_idle_17 post (nI pm) vbl vsh vrc vle vkn vll afr aun amu amy awo aow aln agu awb aku afp atg (d + 1) (id_f pm mu ks x j) (nI j) := by
  intro d
  induction d with
  | zero =>
    intro j hj
    have e : j = 6 := by omega
    subst e
    exact br_t (nI_le (a := 6) (by omega) (by omega)) K
  | succ d ih =>
    intro j hj
    have oj := ok j (by omega)
    have cj : (nI j).toNatClampNeg = j := zi_cl
    have hij : vp_in (nI j) 6 := vp_in_nI (by omega) (by omega)
    have nx := ih (j + 1) (by omega)
    unfold id_f at nx
    refine br_f (nI_ge (b := 6) (by omega) (by decide)) (xw_has (by omega) hpm (fun hP => ?_) (fun hP => ?_))
    · rw [if_pos hP] at nx
      refine br_f (by decide) (And.intro hij (And.intro hij ?_))
      rw [cj, oj.2.2.1.1, hu j (by omega) hP, nI_add]
      exact nm_e (nm_r (nI_1 j) nx)
    · rw [if_neg (by rw [hP]; decide)] at nx
      exact br_t rfl (nm_r (nI_1 j) nx)
theorem yw_idle_l {post : Int32 → SY → Prop} {x : Int32} (ht : yt_ok pm yth) (ok : xa_ok fr un mu ma wo afr aun amu amy awo) (hu : ∀ i, i < 6 → pm.testBit i = true → ybs i = nI (ks i)) (K : post (id_f pm mu ks x 6) (wsh, wct, yth, afr, aun, amu, amy, awo, yrm, ywt, yod, ykp, ybs)) : ∀ d j, j + d = 6 → wY_idle_42 post wsh wct yth afr aun amu amy awo yrm ywt yod ykp ybs (d + 1) (id_f pm mu ks x j) (nI j) := by
  intro d
  induction d with
  | zero =>
    intro j hj
    have e : j = 6 := by omega
    subst e
    exact br_t (nI_le (a := 6) (by omega) (by omega)) K
  | succ d ih =>
    intro j hj
    have oj := ok j (by omega)
    have cj : (nI j).toNatClampNeg = j := zi_cl
    have hij : vp_in (nI j) 6 := vp_in_nI (by omega) (by omega)
    have nx := ih (j + 1) (by omega)
    unfold id_f at nx
    refine br_f (nI_ge (b := 6) (by omega) (by decide)) (And.intro hij (yt_b ht (by omega) (fun hP => ?_) (fun hP => ?_)))
    · rw [if_neg (by rw [hP]; decide)] at nx
      rw [Int32.sub_zero]
      exact nm_e (nm_r (nI_1 j) nx)
    · rw [if_pos hP] at nx
      refine And.intro hij (And.intro hij ?_)
      rw [cj, oj.2.2.1.1, hu j (by omega) hP, nI_add]
      exact nm_e (nm_r (nI_1 j) nx)
theorem yw_idle_c {post : Int32 → SY → Prop} (hbm : bm < 2 ^ 24) (ht : yt_ok pm yth) (ok : xa_ok fr un mu ma wo afr aun amu amy awo) (hu : ∀ i, i < 6 → pm.testBit i = true → ybs i = nI (ks i)) (K : post (id_f pm mu ks (nI (im_s 24 (fun t => (!bm.testBit t).toNat))) 6) (nI bm, wct, yth, afr, aun, amu, amy, awo, yrm, ywt, yod, ykp, ybs)) : ∀ d t, t + d = 24 → wY_idle_9 post (nI bm) wct yth afr aun amu amy awo yrm ywt yod ykp ybs (d + 1) (nI (im_s t (fun t => (!bm.testBit t).toNat))) (nI t) := by
  intro d
  induction d with
  | zero =>
    intro t h
    have e : t = 24 := by omega
    subst e
    exact br_t (nI_le (a := 24) (by omega) (by omega)) ⟨7, yw_idle_l ht ok hu K 6 0 (by omega)⟩
  | succ d ih =>
    intro t h
    have nx := ih (t + 1) (by omega)
    have es : im_s (t + 1) (fun t => (!bm.testBit t).toNat) = im_s t (fun t => (!bm.testBit t).toNat) + (!bm.testBit t).toNat := rfl
    rw [es] at nx
    refine br_f (nI_ge (b := 24) (by omega) (by decide)) (br_c (fun z => ?_) (fun z => ?_))
    · rw [zi_b0 (by omega) (by omega)] at z
      rw [z] at nx
      exact nm_r (nI_1 _) (nm_r (nI_1 t) nx)
    · rw [zi_b0 (by omega) (by omega), Bool.not_eq_false] at z
      rw [z] at nx
      rw [Int32.add_zero]
      exact nm_e (nm_r (nI_1 t) nx)
end
theorem i_vc_idle {k : Nat} {u : SX} {v : SY} (I : i_Rel k u v) (hk : k + 4 ≤ 2048) : wpX_idle (fun r u' => wpY_idle (fun r' v' => r' = r ∧ i_Rel (k + 4) u' v') v) u := by
  refine rl_el (P := fun u v => wpX_idle (fun r u' => wpY_idle (fun r' v' => r' = r ∧ i_Rel (k + 4) u' v') v) u) ?_ I
  intro pm bm fr un mu ma wo vsh vrc vle vkn vll afr aun amu amy awo aow aln agu awb aku afp atg wct yth yrm ywt yod ykp ybs R
  obtain ⟨hpm, hbm, ok, ht, hH, hkn⟩ := R
  unfold wpX_idle
  dsimp only
  refine xw_learn hpm ok hbm hH hkn (fun sh ll rc le ow al ag aw ku fp tg hq => ?_)
  have hq' := hq
  obtain ⟨ks, G, hu, hl, hp⟩ := hq
  have es : im_s 24 (fun t => (bm.testBit t).toNat) + im_s 24 (fun t => (!bm.testBit t).toNat) = 24 := by
    rw [← im_s_add, im_s_c (g := fun _ => 1), im_s_k]
    intro t _
    cases bm.testBit t <;> rfl
  have e24 : (24 : Int32) - nI (im_s 24 (fun t => (bm.testBit t).toNat)) = nI (im_s 24 (fun t => (!bm.testBit t).toNat)) := by
    show nI 24 - _ = _
    rw [pk_sub (by omega)]
    exact congrArg nI (by omega)
  dsimp only
  refine xw_count (by omega) (nm_r e24 ⟨7, ?_⟩)
  refine xw_idle_l (ks := ks) hpm ok hu ?_ 6 0 (by omega)
  unfold wpY_idle
  dsimp only
  refine yw_try ok ht hbm G (fun ct rm wt od kp bs hb => ⟨25, ?_⟩)
  exact yw_idle_c hbm ht ok hb ⟨rfl, rl_in ⟨hpm, hbm, ok, ht, hH, Or.inr ⟨rfl, hq'⟩⟩⟩ 24 0 (by omega)
end
section
/-! lossWithout, greatestMust -/
theorem i_vc_lossWithout {k : Nat} {u : SX} {v : SY} (I : i_Rel k u v) (hk : k + 4 ≤ 2048) (v1 : Int32) : wpX_lossWithout (fun r u' => wpY_lossWithout (fun r' v' => r' = r ∧ i_Rel (k + 4) u' v') v v1) u v1 := by
  refine rl_el (P := fun u v => wpX_lossWithout (fun r u' => wpY_lossWithout (fun r' v' => r' = r ∧ i_Rel (k + 4) u' v') v v1) u v1) ?_ I
  intro pm bm fr un mu ma wo vsh vrc vle vkn vll afr aun amu amy awo aow aln agu awb aku afp atg wct yth yrm ywt yod ykp ybs R
  have R' := R
  obtain ⟨hpm, hbm, ok, ht, hH, hkn⟩ := R'
  rcases pk_ix v1 (n := 24) (by decide) with z | z | ⟨t, h24, rfl⟩
  · exact br_t z (br_t z ⟨rfl, rl_in R⟩)
  · have h0 : ¬ v1 < 0 := fun y => absurd (Int32.lt_of_le_of_lt z y) (by decide)
    have h1 : ¬ v1 < 24 := Int32.not_lt.mpr z
    have h2 : ¬ v1 ≤ 23 := fun y => absurd (Int32.le_trans z y) (by decide)
    exact br_f h0 (br_f h1 (br_f h0 (br_f h2 ⟨rfl, rl_in R⟩)))
  · have h0 : ¬ nI t < 0 := nI_pos (by omega)
    have h1 : nI t < 24 := nI_lt (b := 24) h24 (by decide)
    have h2 : nI t ≤ 23 := nI_le (b := 23) (by omega) (by decide)
    have hs : bm ||| 2 ^ t < 2 ^ 24 := Nat.or_lt_two_pow hbm (Nat.pow_lt_pow_right (by decide) h24)
    unfold wpX_lossWithout
    dsimp only
    refine br_f h0 (br_t h1 ?_)
    rw [zi_sh (by omega), zi_or]
    refine xw_ll hpm ok hs (fun rc le ow al ag aw ku ks G hu => ?_) (fun rc le ow al ag aw hN => ?_)
    · have hl := im_ls_le (P := im_P pm) (k := ks) (fun j hj => (ok j hj).2.2.2.2.2) (fun j hj => (ok j hj).2.2.2.1.2)
      refine br_t (nI_pos' (by omega)) ?_
      unfold wpY_lossWithout
      dsimp only
      refine br_f h0 (br_t h2 ?_)
      rw [zi_sh (by omega), zi_or]
      have hHs : im_H (im_g pm fr un (bm ||| 2 ^ t)) (im_cm pm mu) := im_H_le G.1 fun j _ => by unfold im_pt; omega
      refine nm_e (yw_fits ok ht hs (fun rm wt H => br_f (by decide) ?_) (fun rm wt H => absurd hHs H))
      exact yw_try ok ht hs G (fun ct rm wt od kp bs hb => ⟨rfl, rl_in ⟨hpm, hbm, ok, ht, hH, Or.inl rfl⟩⟩)
    · refine br_f (by decide) ?_
      unfold wpY_lossWithout
      dsimp only
      refine br_f h0 (br_t h2 ?_)
      rw [zi_sh (by omega), zi_or]
      exact nm_e (yw_fits ok ht hs (fun rm wt H => absurd H hN) (fun rm wt H => br_t rfl ⟨rfl, rl_in ⟨hpm, hbm, ok, ht, hH, Or.inl rfl⟩⟩))
def gm_v (m n : Nat) : Nat := if m ≤ n + 1 then m - 1 else n
theorem gm_cm {pm j n i : Nat} {mu : Nat → Nat} (hP : pm.testBit j = true) : im_cm pm (im_u mu j n) i = if i = j then n else im_cm pm mu i := by
  unfold im_cm
  by_cases e : i = j
  · subst e; rw [if_pos hP, im_us, if_pos rfl]
  · rw [if_neg e, im_un' e]
section
variable {vpr vbl vsh vrc vle vkn vll : Int32} {afr aun amu amy awo aow aln agu awb aku afp atg : Nat → Int32}
variable {fr un mu ma wo : Nat → Nat} {pm s : Nat}
theorem xw_gm_l {post : Int32 → SX → Prop} {j : Nat} (ok : xa_ok fr un mu ma wo afr aun amu amy awo) (hs : s < 2 ^ 24) (hj : j < 6) (hP : pm.testBit j = true)
    (K : ∀ n rc le (ow al ag aw : Nat → Int32), n ≤ 6 → im_H (im_g pm fr un s) (im_cm pm (im_u mu j n)) → (n = 6 ∨ ¬ im_H (im_g pm fr un s) (im_cm pm (im_u mu j (n + 1)))) → post (nI n) (vpr, vbl, nI s, rc, le, vkn, vll, afr, aun, amu, amy, awo, ow, al, ag, aw, aku, afp, atg)) :
    ∀ d n (o : Nat → Nat) rc le (ow al ag aw : Nat → Int32), n + d = 6 → zi_OW ow o → im_V (im_g pm fr un s) o → (∀ i, i < 6 → im_ct o i = im_cm pm (im_u mu j n) i) → wX_greatestMust_30 post (nI j) (d + 1) (nI n) vpr vbl (nI s) rc le vkn vll afr aun amu amy awo ow al ag aw aku afp atg := by
  intro d
  induction d with
  | zero =>
    intro n o rc le ow al ag aw hn hO hV hc
    exact br_t (nI_le (a := 6) (by omega) (by omega)) (K n _ _ _ _ _ _ (by omega) ((im_H_c hc).mp (im_V_H hV)) (Or.inl (by omega)))
  | succ d ih =>
    intro n o rc le ow al ag aw hn hO hV hc
    refine br_f (nI_ge (b := 6) (by omega) (by decide)) ?_
    refine xw_give ok hs hj hP hO hV (fun rc le ow al ag aw o' hO' hV' hc' => ?_) (fun rc le al ag aw S hS hb ht => ?_)
    · refine br_f (by decide) (nm_r (nI_1 n) (ih (n + 1) o' _ _ _ _ _ _ (by omega) hO' hV' (fun i hi => ?_)))
      rw [hc' i hi, hc i hi, gm_cm hP, gm_cm hP]
      by_cases e : i = j
      · rw [if_pos e, if_pos e, if_pos e]
      · rw [if_neg e, if_neg e, if_neg e]; rfl
    · refine br_t rfl (K n _ _ _ _ _ _ (by omega) ((im_H_c hc).mp (im_V_H hV)) (Or.inr (im_inf hS hj hb ht (fun i hi _ => ?_) ?_)))
      · rw [hc i hi, gm_cm hP, gm_cm hP]
        by_cases e : i = j
        · rw [if_pos e, if_pos e]; omega
        · rw [if_neg e, if_neg e]; exact Nat.le_refl _
      · rw [hc j hj, gm_cm hP, gm_cm hP, if_pos rfl, if_pos rfl]; omega
end
section
variable {wsh wct : Int32} {yth afr aun amu amy awo yrm ywt yod ykp ybs : Nat → Int32}
variable {fr un mu ma wo : Nat → Nat} {pm s : Nat}
theorem yw_gm_l {post : Int32 → SY → Prop} {j n : Nat} (ok : xa_ok fr un mu ma wo afr aun amu amy awo) (hth : yt_ok pm yth) (hs : s < 2 ^ 24) (hj : j < 6) (hP : pm.testBit j = true) (hn : n ≤ 6)
    (hle : ∀ m, m ≤ n → im_H (im_g pm fr un s) (im_cm pm (im_u mu j m))) (hgt : ∀ m, n < m → m ≤ 6 → ¬ im_H (im_g pm fr un s) (im_cm pm (im_u mu j m)))
    (K : ∀ rm wt : Nat → Int32, post (nI n) (nI s, wct, yth, afr, aun, amu, amy, awo, rm, wt, yod, ykp, ybs)) :
    ∀ d m (am rm wt : Nat → Int32), m + d = 7 → (∀ i, i ≠ j → am i = amu i) → wY_greatestMust_22 post (nI j) (nI (mu j)) (d + 1) (nI (gm_v m n)) (nI m) (nI s) wct yth afr aun am amy awo rm wt yod ykp ybs := by
  have cj : (nI j).toNatClampNeg = j := zi_cl
  have hij : vp_in (nI j) 6 := vp_in_nI hj (by omega)
  intro d
  induction d with
  | zero =>
    intro m am rm wt hm ha
    have e : m = 7 := by omega
    subst e
    refine br_t (nI_lt (a := 6) (b := 7) (by omega) (by decide)) (And.intro hij ?_)
    have e1 : upd am j (nI (mu j)) = amu := by
      funext i
      by_cases e : i = j
      · subst e; rw [pk_us, (ok i hj).2.2.1.1]
      · rw [pk_un e]; exact ha i e
    have e2 : gm_v 7 n = n := by
      unfold gm_v
      split <;> omega
    rw [cj, e1, e2]
    exact nm_e (K rm wt)
  | succ d ih =>
    intro m am rm wt hm ha
    have ok' : xa_ok fr un (im_u mu j m) ma wo afr aun (upd am j (nI m)) amy awo := by
      intro i hi
      have o := ok i hi
      by_cases e : i = j
      · subst e
        rw [pk_us, im_us]
        exact ⟨o.1, o.2.1, ⟨rfl, by omega⟩, o.2.2.2⟩
      · rw [pk_un e, im_un' e, ha i e]
        exact o
    have ha' : ∀ i, i ≠ j → upd am j (nI m) i = amu i := fun i e => by rw [pk_un e]; exact ha i e
    refine br_f (nI_nlt (a := 6) (by omega) (by decide)) (And.intro hij ?_)
    rw [cj]
    refine nm_e (yw_fits ok' hth hs (fun rm wt H => br_f (by decide) (nm_r (nI_1 m) ?_)) (fun rm wt H => br_t rfl (nm_r (nI_1 m) ?_)))
    · have hmn : m ≤ n := by
        rcases Nat.lt_or_ge n m with z | z
        · exact absurd H (hgt m z (by omega))
        · exact z
      have := ih (m + 1) _ rm wt (by omega) ha'
      have e : gm_v (m + 1) n = m := by
        unfold gm_v; rw [if_pos (by omega)]; omega
      rw [e] at this
      exact this
    · have hmn : n < m := by
        rcases Nat.lt_or_ge n m with z | z
        · exact z
        · exact absurd (hle m z) H
      have := ih (m + 1) _ rm wt (by omega) ha'
      have e : gm_v (m + 1) n = gm_v m n := by
        unfold gm_v
        rw [if_neg (by omega)]
        split <;> omega
      rw [e] at this
      exact this
end
theorem i_vc_greatestMust {k : Nat} {u : SX} {v : SY} (I : i_Rel k u v) (hk : k + 4 ≤ 2048) (v1 : Int32) : wpX_greatestMust (fun r u' => wpY_greatestMust (fun r' v' => r' = r ∧ i_Rel (k + 4) u' v') v v1) u v1 := by
  refine rl_el (P := fun u v => wpX_greatestMust (fun r u' => wpY_greatestMust (fun r' v' => r' = r ∧ i_Rel (k + 4) u' v') v v1) u v1) ?_ I
  intro pm bm fr un mu ma wo vsh vrc vle vkn vll afr aun amu amy awo aow aln agu awb aku afp atg wct yth yrm ywt yod ykp ybs R
  have R' := R
  obtain ⟨hpm, hbm, ok, ht, hH, hkn⟩ := R'
  unfold wpX_greatestMust
  dsimp only
  rcases kn_no v1 with z | ⟨j, hj, rfl⟩
  · refine xw_has0 z (br_t rfl ?_)
    unfold wpY_greatestMust
    dsimp only
    exact yw_is0 z (br_t rfl ⟨rfl, rl_in R⟩)
  · have cj : (nI j).toNatClampNeg = j := zi_cl
    have hij : vp_in (nI j) 6 := vp_in_nI hj (by omega)
    have oj := (ok j hj).2.2.1
    refine xw_has hj hpm (fun hP => br_f (by decide) ?_) (fun hP => br_t rfl ?_)
    · refine xw_begin (fun ow0 h0 => xw_musts hpm ok hbm h0 (fun rc le ow al ag aw o' hO hV hc => And.intro hij ?_) (fun rc le ow al ag aw hN => absurd hH hN))
      dsimp only
      rw [cj, oj.1]
      refine nm_e ⟨6 - mu j + 1, xw_gm_l ok hbm hj hP (fun n rc le ow al ag aw hn h1 h2 => ?_) (6 - mu j) (mu j) o' rc le ow al ag aw (by omega) hO hV (fun i hi => ?_)⟩
      · unfold wpY_greatestMust
        dsimp only
        refine yw_is hj ht (fun _ => br_f (by decide) (And.intro hij ?_)) (fun h => by rw [hP] at h; cases h)
        rw [cj, oj.1]
        refine nm_e ⟨8, yw_gm_l (n := n) ok ht hbm hj hP hn (fun m hm => im_H_le h1 fun i _ => ?_) (fun m hm hm6 H => ?_) (fun rm wt => ⟨rfl, rl_in R⟩) 7 0 amu yrm ywt (by omega) (fun _ _ => rfl)⟩
        · rw [gm_cm hP, gm_cm hP]
          by_cases e : i = j
          · rw [if_pos e, if_pos e]; exact hm
          · rw [if_neg e, if_neg e]; exact Nat.le_refl _
        · rcases h2 with z | z
          · omega
          · refine z (im_H_le H fun i _ => ?_)
            rw [gm_cm hP, gm_cm hP]
            by_cases e : i = j
            · rw [if_pos e, if_pos e]; omega
            · rw [if_neg e, if_neg e]; exact Nat.le_refl _
      · rw [hc i hi, gm_cm hP]
        by_cases e : i = j
        · subst e; rw [if_pos rfl, im_cm, if_pos hP]
        · rw [if_neg e]
    · unfold wpY_greatestMust
      dsimp only
      exact yw_is hj ht (fun h => by rw [hP] at h; cases h) (fun _ => br_t rfl ⟨rfl, rl_in R⟩)
end
section
/-! freeable -/
def fr_F (g : Nat → Nat → Bool) (c b : Nat → Nat) : Prop := ∀ i, i < 6 → c i ≤ b i ∧ (c i < b i → ∃ S, S < 64 ∧ S.testBit i = true ∧ im_rm g S ≤ im_dm c S)
def fr_b (cm : Nat → Nat) (j k i : Nat) : Nat := if i < j then cm i else if i = j then k else 0
theorem fr_b1 {cm : Nat → Nat} {j k i : Nat} : fr_b cm j (k + 1) i = fr_b cm j k i + (if i = j then 1 else 0) := by
  unfold fr_b
  by_cases a : i < j
  · rw [if_pos a, if_pos a, if_neg (by omega)]; rfl
  · rw [if_neg a, if_neg a]
    by_cases e : i = j
    · rw [if_pos e, if_pos e, if_pos e]
    · rw [if_neg e, if_neg e, if_neg e]
theorem fr_b2 {cm : Nat → Nat} {j i : Nat} : fr_b cm (j + 1) 0 i = fr_b cm j (cm j) i := by
  unfold fr_b
  by_cases a : i < j
  · rw [if_pos a, if_pos (by omega)]
  · rw [if_neg a]
    by_cases e : i = j
    · subst e; rw [if_pos rfl, if_pos (by omega)]
    · rw [if_neg e, if_neg (by omega)]
      split <;> rfl
theorem fr_F_c {g : Nat → Nat → Bool} {c b b' : Nat → Nat} (h : fr_F g c b) (e : ∀ i, i < 6 → b' i = b i) : fr_F g c b' := by
  intro i hi
  rw [e i hi]; exact h i hi
theorem fr_F_s {g : Nat → Nat → Bool} {c c' b b' : Nat → Nat} {j : Nat} (h : fr_F g c b) (hc : ∀ i, i < 6 → c' i = c i + (if i = j then 1 else 0)) (hb : ∀ i, i < 6 → b' i = b i + (if i = j then 1 else 0)) : fr_F g c' b' := by
  intro i hi
  have a := h i hi
  rw [hc i hi, hb i hi]
  refine ⟨by omega, fun z => ?_⟩
  obtain ⟨S, hS, hs, ht⟩ := a.2 (by omega)
  exact ⟨S, hS, hs, Nat.le_trans ht (im_dm_le fun l hl => by rw [hc l hl]; omega)⟩
theorem fr_F_n {g : Nat → Nat → Bool} {c b b' : Nat → Nat} {j S : Nat} (h : fr_F g c b) (hb : ∀ i, i < 6 → b' i = b i + (if i = j then 1 else 0)) (hS : S < 64) (hs : S.testBit j = true) (ht : im_rm g S ≤ im_dm c S) : fr_F g c b' := by
  intro i hi
  have a := h i hi
  rw [hb i hi]
  by_cases e : i = j
  · subst e
    exact ⟨by omega, fun _ => ⟨S, hS, hs, ht⟩⟩
  · rw [if_neg e]; exact a
section
variable {vpr vbl vsh vrc vle vkn vll : Int32} {afr aun amu amy awo aow aln agu awb aku afp atg : Nat → Int32}
variable {fr un mu ma wo : Nat → Nat} {pm s : Nat}
theorem xw_fr_in {post : Int32 → SX → Prop} {J : Int32 → Int32 → Int32 → Int32 → Int32 → Int32 → Int32 → Int32 → Int32 → Int32 → (Nat → Int32) → (Nat → Int32) → (Nat → Int32) → (Nat → Int32) → (Nat → Int32) → (Nat → Int32) → (Nat → Int32) → (Nat → Int32) → (Nat → Int32) → (Nat → Int32) → (Nat → Int32) → (Nat → Int32) → Prop} {x3 x5 : Int32} {j n : Nat} {cm : Nat → Nat} (ok : xa_ok fr un mu ma wo afr aun amu amy awo) (hs : s < 2 ^ 24) (hj : j < 6) (hn : n ≤ 6) (hP : 0 < n → pm.testBit j = true)
    (K : ∀ rc le (ow al ag aw : Nat → Int32) o, zi_OW ow o → im_V (im_g pm fr un s) o → fr_F (im_g pm fr un s) (im_ct o) (fr_b cm j n) → J (nI (im_s 6 (im_ct o))) x5 (nI (j + 1)) vpr vbl (nI s) rc le vkn vll afr aun amu amy awo ow al ag aw aku afp atg) :
    ∀ d k (o : Nat → Nat) rc le (ow al ag aw : Nat → Int32), k + d = n → zi_OW ow o → im_V (im_g pm fr un s) o → fr_F (im_g pm fr un s) (im_ct o) (fr_b cm j k) → wX_freeable_88 post J x3 x5 (nI j) (nI n) (d + 1) (nI (im_s 6 (im_ct o))) (nI k) vpr vbl (nI s) rc le vkn vll afr aun amu amy awo ow al ag aw aku afp atg := by
  intro d
  induction d with
  | zero =>
    intro k o rc le ow al ag aw hk hO hV hF
    have e : k = n := by omega
    subst e
    exact br_t (nI_le (by omega) (by omega)) (nm_r (nI_1 j) (K _ _ _ _ _ _ o hO hV hF))
  | succ d ih =>
    intro k o rc le ow al ag aw hk hO hV hF
    refine br_f (nI_ge (by omega) (by omega)) ?_
    refine xw_give ok hs hj (hP (by omega)) hO hV (fun rc le ow al ag aw o' hO' hV' hc' => ?_) (fun rc le al ag aw S hS hb ht => ?_)
    · have es : im_s 6 (im_ct o') = im_s 6 (im_ct o) + 1 := by
        rw [im_s_c hc', im_s_add, im_s_1 hj]
      have := ih (k + 1) o' rc le ow al ag aw (by omega) hO' hV' (fr_F_s hF hc' (fun i _ => fr_b1))
      rw [es] at this
      exact br_f (by decide) (nm_r (nI_1 _) (nm_r (nI_1 k) this))
    · have := ih (k + 1) o rc le _ al ag aw (by omega) hO hV (fr_F_n hF (fun i _ => fr_b1) hS hb ht)
      exact br_t rfl (nm_r (Int32.add_zero _) (nm_r (nI_1 k) this))
theorem xw_fr_out {post : Int32 → SX → Prop} {q : Nat} (hpm : pm < 64) (ok : xa_ok fr un mu ma wo afr aun amu amy awo) (hs : s < 2 ^ 24) (hq : q < 2 ^ 31)
    (K : ∀ rc le (ow al ag aw : Nat → Int32) c, im_H (im_g pm fr un s) c → fr_F (im_g pm fr un s) c (im_cm pm mu) → post (nI (im_s 24 (fun t => (q.testBit t).toNat)) - (nI (im_s 6 (im_cm pm mu)) - nI (im_s 6 c))) (nI pm, vbl, nI s, rc, le, vkn, vll, afr, aun, amu, amy, awo, ow, al, ag, aw, aku, afp, atg)) :
    ∀ d j (o : Nat → Nat) rc le (ow al ag aw : Nat → Int32), j + d = 6 → zi_OW ow o → im_V (im_g pm fr un s) o → fr_F (im_g pm fr un s) (im_ct o) (fr_b (im_cm pm mu) j 0) → wX_freeable_49 post (nI q) (d + 1) (nI (im_s 6 (im_ct o))) (nI (im_s j (im_cm pm mu))) (nI j) (nI pm) vbl (nI s) rc le vkn vll afr aun amu amy awo ow al ag aw aku afp atg := by
  intro d
  induction d with
  | zero =>
    intro j o rc le ow al ag aw hj hO hV hF
    have e : j = 6 := by omega
    subst e
    refine br_t (nI_le (a := 6) (by omega) (by omega)) (xw_count hq ?_)
    exact K _ _ _ _ _ _ _ (im_V_H hV) (fr_F_c hF fun i hi => by unfold fr_b; rw [if_pos hi])
  | succ d ih =>
    intro j o rc le ow al ag aw hj hO hV hF
    have oj := ok j (by omega)
    have cj : (nI j).toNatClampNeg = j := zi_cl
    have es : im_s (j + 1) (im_cm pm mu) = im_s j (im_cm pm mu) + im_cm pm mu j := rfl
    refine br_f (nI_ge (b := 6) (by omega) (by decide)) (xw_has (by omega) hpm (fun hP => ?_) (fun hP => ?_))
    · have ec : im_cm pm mu j = mu j := by unfold im_cm; rw [if_pos hP]
      refine br_f (by decide) (And.intro (vp_in_nI (by omega) (by omega)) ?_)
      rw [cj, oj.2.2.1.1]
      refine nm_e (nm_r (nI_add _ _) ⟨mu j + 1, ?_⟩)
      refine xw_fr_in (cm := im_cm pm mu) ok hs (by omega) oj.2.2.1.2 (fun _ => hP) (fun rc le ow al ag aw o' hO' hV' hF' => ?_) (mu j) 0 o rc le ow al ag aw (by omega) hO hV hF
      have := ih (j + 1) o' rc le ow al ag aw (by omega) hO' hV' (fr_F_c hF' fun i _ => by rw [fr_b2, ec])
      rw [es, ec] at this
      exact this
    · have ec : im_cm pm mu j = 0 := by unfold im_cm; rw [hP]; rfl
      refine br_t rfl (nm_r (Int32.add_zero _) ⟨1, ?_⟩)
      refine xw_fr_in (cm := im_cm pm mu) (n := 0) ok hs (by omega) (by omega) (fun h => by omega) (fun rc le ow al ag aw o' hO' hV' hF' => ?_) 0 0 o rc le ow al ag aw (by omega) hO hV hF
      have := ih (j + 1) o' rc le ow al ag aw (by omega) hO' hV' (fr_F_c hF' fun i _ => by rw [fr_b2, ec])
      rw [es, ec] at this
      exact this
end
def fr_Y (pm bm : Nat) (fr un mu : Nat → Nat) (a t s : Nat) : Prop :=
  s < 2 ^ 24 ∧ (∀ y, bm.testBit y = true → s.testBit y = true) ∧ (∀ y, s.testBit y = true → bm.testBit y = true ∨ (a ≤ y ∧ y < t)) ∧ im_H (im_g pm fr un s) (im_cm pm mu) ∧
  ∀ y, a ≤ y → y < t → s.testBit y = false → ∃ S, S < 64 ∧ im_nb (im_g pm fr un s) S y = true ∧ im_rm (im_g pm fr un s) S ≤ im_dm (im_cm pm mu) S
theorem fr_Y_skip {pm bm a t s : Nat} {fr un mu : Nat → Nat} (h : fr_Y pm bm fr un mu a t s) (hs : s.testBit t = true) : fr_Y pm bm fr un mu a (t + 1) s := by
  obtain ⟨h1, h2, h3, h4, h5⟩ := h
  refine ⟨h1, h2, fun y hy => ?_, h4, fun y ha hy hn => ?_⟩
  · rcases h3 y hy with z | z
    · exact Or.inl z
    · exact Or.inr ⟨z.1, by omega⟩
  · rcases Nat.lt_or_ge y t with z | z
    · exact h5 y ha z hn
    · have e : y = t := by omega
      subst e; rw [hs] at hn; cases hn
theorem fr_Y_add {pm bm a t s : Nat} {fr un mu : Nat → Nat} (h : fr_Y pm bm fr un mu a t s) (h24 : t < 24) (ha : a ≤ t) (H : im_H (im_g pm fr un (s ||| 2 ^ t)) (im_cm pm mu)) : fr_Y pm bm fr un mu a (t + 1) (s ||| 2 ^ t) := by
  obtain ⟨h1, h2, h3, h4, h5⟩ := h
  refine ⟨Nat.or_lt_two_pow h1 (Nat.pow_lt_pow_right (by decide) h24), fun y hy => ?_, fun y hy => ?_, H, fun y hya hy hn => ?_⟩
  · rw [ll_or, h2 y hy]; rfl
  · rw [ll_or] at hy
    by_cases e : t = y
    · subst e; exact Or.inr ⟨ha, by omega⟩
    · rw [decide_eq_false e, Bool.or_false] at hy
      rcases h3 y hy with z | z
      · exact Or.inl z
      · exact Or.inr ⟨z.1, by omega⟩
  · rw [ll_or, Bool.or_eq_false_iff] at hn
    have e : ¬ t = y := by
      intro e
      rw [decide_eq_true e] at hn
      cases hn.2
    obtain ⟨S, hS, hb, ht⟩ := h5 y hya (by omega) hn.1
    refine ⟨S, hS, ?_, Nat.le_trans (im_rm_le fun j t' _ _ hg => ?_) ht⟩
    · rw [im_nb_s, hn.1] at hb
      rw [im_nb_s, ll_or, hn.1, decide_eq_false e]
      exact hb
    · rw [im_g_i] at hg ⊢
      refine ⟨hg.1, hg.2.1, hg.2.2.1, ?_⟩
      have := hg.2.2.2
      rw [ll_or, Bool.or_eq_false_iff] at this
      exact this.1
theorem fr_Y_no {pm bm a t s : Nat} {fr un mu : Nat → Nat} (h : fr_Y pm bm fr un mu a t s) (H : ¬ im_H (im_g pm fr un (s ||| 2 ^ t)) (im_cm pm mu)) : fr_Y pm bm fr un mu a (t + 1) s := by
  obtain ⟨h1, h2, h3, h4, h5⟩ := h
  refine ⟨h1, h2, fun y hy => ?_, h4, fun y hya hy hn => ?_⟩
  · rcases h3 y hy with z | z
    · exact Or.inl z
    · exact Or.inr ⟨z.1, by omega⟩
  · rcases Nat.lt_or_ge y t with z | z
    · exact h5 y hya z hn
    · have e : y = t := by omega
      subst e
      rcases Classical.em (∃ S, S < 64 ∧ im_rm (im_g pm fr un (s ||| 2 ^ y)) S < im_dm (im_cm pm mu) S) with ⟨S, hS, hl⟩ | w
      · have a1 := h4 S hS
        have up : im_rm (im_g pm fr un s) S ≤ im_rm (im_g pm fr un (s ||| 2 ^ y)) S + im_s 24 (fun t => if t = y then (im_nb (im_g pm fr un s) S y).toNat else 0) := by
          unfold im_rm
          rw [← im_s_add]
          refine im_s_le fun t _ => ?_
          by_cases e : t = y
          · rw [if_pos e, e]; omega
          · rw [if_neg e, im_nb_s (s := s ||| 2 ^ y), ll_or, decide_eq_false (fun z => e z.symm), Bool.or_false, ← im_nb_s]
            exact Nat.le_refl _
        have up2 : im_s 24 (fun t => if t = y then (im_nb (im_g pm fr un s) S y).toNat else 0) ≤ (im_nb (im_g pm fr un s) S y).toNat := by
          rcases Nat.lt_or_ge y 24 with z | z
          · rw [im_s_1 z]; exact Nat.le_refl _
          · rw [im_s_0 fun i hi => if_neg (by omega)]; omega
        have b1 := Bool.toNat_le (im_nb (im_g pm fr un s) S y)
        refine ⟨S, hS, ?_, by omega⟩
        cases hb : im_nb (im_g pm fr un s) S y
        · have : (im_nb (im_g pm fr un s) S y).toNat = 0 := by rw [hb]; rfl
          omega
        · rfl
      · refine absurd (fun S hS => ?_) H
        rcases Nat.lt_or_ge (im_rm (im_g pm fr un (s ||| 2 ^ y)) S) (im_dm (im_cm pm mu) S) with x | x
        · exact absurd ⟨S, hS, x⟩ w
        · exact x
theorem bk_1 {s t : Nat} : bk_b s t 1 = s ||| 2 ^ t := if_neg (by decide)
section
variable {wsh wct : Int32} {yth afr aun amu amy awo yrm ywt yod ykp ybs : Nat → Int32}
variable {fr un mu ma wo : Nat → Nat} {pm bm : Nat}
theorem yw_fr_l {post : Int32 → SY → Prop} {a b : Nat} (ok : xa_ok fr un mu ma wo afr aun amu amy awo) (hth : yt_ok pm yth) (hb : b ≤ 24)
    (K : ∀ s (rm wt : Nat → Int32), fr_Y pm bm fr un mu a b s → post (nI (im_s 24 (fun y => (s.testBit y && !bm.testBit y).toNat))) (nI bm, wct, yth, afr, aun, amu, amy, awo, rm, wt, yod, ykp, ybs)) :
    ∀ d t s (rm wt : Nat → Int32), t + d = b → a ≤ t → fr_Y pm bm fr un mu a t s → wY_freeable_28 post (nI b) (nI bm) (d + 1) (nI (im_s 24 (fun y => (s.testBit y && !bm.testBit y).toNat))) (nI t) (nI s) wct yth afr aun amu amy awo rm wt yod ykp ybs := by
  intro d
  induction d with
  | zero =>
    intro t s rm wt hd ha hF
    have e : t = b := by omega
    subst e
    exact br_t (nI_le (by omega) (by omega)) (K s rm wt hF)
  | succ d ih =>
    intro t s rm wt hd ha hF
    have hs := hF.1
    refine br_f (nI_ge (by omega) (by omega)) (br_c (fun z => ?_) (fun z => ?_))
    · rw [zi_b0 (by omega) (by omega)] at z
      refine yw_block ok hth hs (by omega) (fun rm wt H => ?_) (fun rm wt H => ?_)
      · rw [bk_1] at H ⊢
        have hbt : bm.testBit t = false := by
          cases h : bm.testBit t
          · rfl
          · rw [hF.2.1 t h] at z; cases z
        have es : im_s 24 (fun y => ((s ||| 2 ^ t).testBit y && !bm.testBit y).toNat) = im_s 24 (fun y => (s.testBit y && !bm.testBit y).toNat) + 1 := by
          rw [im_s_c (g := fun y => (s.testBit y && !bm.testBit y).toNat + (if y = t then 1 else 0)), im_s_add, im_s_1 (by omega)]
          intro y _
          rw [ll_or]
          by_cases e : y = t
          · subst e; rw [z, hbt, decide_eq_true rfl, if_pos rfl]; rfl
          · rw [decide_eq_false (fun x => e x.symm), Bool.or_false, if_neg e]; rfl
        have := ih (t + 1) (s ||| 2 ^ t) rm wt (by omega) (by omega) (fr_Y_add hF (by omega) ha H)
        rw [es] at this
        exact br_t rfl (nm_r (nI_1 _) (nm_r (nI_1 t) this))
      · rw [bk_1] at H
        have := ih (t + 1) s rm wt (by omega) (by omega) (fr_Y_no hF H)
        refine br_f (fun e => ?_) (nm_r (Int32.add_zero _) (nm_r (nI_1 t) this))
        have e2 := congrArg Int32.toInt e
        rw [nI_toInt (by omega), show (-3 : Int32).toInt = -3 by decide] at e2
        omega
    · rw [zi_b0 (by omega) (by omega), Bool.not_eq_false] at z
      exact nm_r (nI_1 t) (ih (t + 1) s rm wt (by omega) (by omega) (fr_Y_skip hF z))
end
theorem fr_fin {pm bm a b s q : Nat} {fr un mu c : Nat → Nat} (hb : b ≤ 24) (hq : ∀ y, q.testBit y = (decide (y < b) && !decide (y < a) && !bm.testBit y))
    (HO : im_H (im_g pm fr un (bm ||| q)) c) (hF : fr_F (im_g pm fr un (bm ||| q)) c (im_cm pm mu)) (hY : fr_Y pm bm fr un mu a b s) :
    nI (im_s 24 (fun y => (s.testBit y && !bm.testBit y).toNat)) = nI (im_s 24 (fun t => (q.testBit t).toNat)) - (nI (im_s 6 (im_cm pm mu)) - nI (im_s 6 c)) := by
  obtain ⟨h1, h2, h3, h4, h5⟩ := hY
  have main := im_free (gE := im_g pm fr un bm) (I := fun t => q.testBit t) (B := fun t => s.testBit t && !bm.testBit t) (c := c) (cm := im_cm pm mu) (gO := im_g pm fr un (bm ||| q)) (gs := im_g pm fr un s)
    (fun j t => by
      unfold im_g
      rw [Nat.testBit_or]
      cases pm.testBit j <;> cases decide (fr j ≤ t) <;> cases decide (t < un j) <;> cases bm.testBit t <;> cases q.testBit t <;> rfl)
    (fun j t => by
      have e : s.testBit t = (bm.testBit t || (s.testBit t && !bm.testBit t)) := by
        have := h2 t
        revert this
        cases bm.testBit t <;> cases s.testBit t <;> simp
      unfold im_g
      rw [e]
      cases pm.testBit j <;> cases decide (fr j ≤ t) <;> cases decide (t < un j) <;> cases bm.testBit t <;> cases s.testBit t <;> rfl)
    (fun t _ h => by
      rw [Bool.and_eq_true, Bool.not_eq_true'] at h
      rw [hq, h.2]
      rcases h3 t h.1 with z | z
      · rw [h.2] at z; cases z
      · rw [decide_eq_true z.2, decide_eq_false (by omega)]; rfl)
    HO hF h4
    (fun t _ hI hB => by
      rw [hq, Bool.and_eq_true, Bool.and_eq_true, Bool.not_eq_true', Bool.not_eq_true', decide_eq_true_iff, decide_eq_false_iff_not] at hI
      refine h5 t (by omega) hI.1.1 ?_
      rw [hI.2, Bool.not_false, Bool.and_true] at hB
      exact hB)
  have sub : im_s 24 (fun t => (q.testBit t).toNat) = im_s 24 (fun t => (q.testBit t && !(s.testBit t && !bm.testBit t)).toNat) + im_s 24 (fun t => (s.testBit t && !bm.testBit t).toNat) := by
    rw [← im_s_add]
    refine im_s_c fun t _ => ?_
    have : (s.testBit t && !bm.testBit t) = true → q.testBit t = true := by
      intro h
      rw [Bool.and_eq_true, Bool.not_eq_true'] at h
      rw [hq, h.2]
      rcases h3 t h.1 with z | z
      · rw [h.2] at z; cases z
      · rw [decide_eq_true z.2, decide_eq_false (by omega)]; rfl
    revert this
    cases q.testBit t <;> cases (s.testBit t && !bm.testBit t) <;> simp
  have main' : im_s 24 (fun t => (q.testBit t && !(s.testBit t && !bm.testBit t)).toNat) + im_s 6 c = im_s 6 (im_cm pm mu) := main
  rw [pk_sub (by omega), pk_sub (by omega)]
  exact congrArg nI (by omega)
theorem i_vc_freeable {k : Nat} {u : SX} {v : SY} (I : i_Rel k u v) (hk : k + 4 ≤ 2048) (v1 : Int32) (v2 : Int32) : wpX_freeable (fun r u' => wpY_freeable (fun r' v' => r' = r ∧ i_Rel (k + 4) u' v') v v1 v2) u v1 v2 := by
  refine rl_el (P := fun u v => wpX_freeable (fun r u' => wpY_freeable (fun r' v' => r' = r ∧ i_Rel (k + 4) u' v') v v1 v2) u v1 v2) ?_ I
  intro pm bm fr un mu ma wo vsh vrc vle vkn vll afr aun amu amy awo aow aln agu awb aku afp atg wct yth yrm ywt yod ykp ybs R
  have R' := R
  obtain ⟨hpm, hbm, ok, ht, hH, hkn⟩ := R'
  by_cases A : v1 < 0
  · exact br_t A (br_t A ⟨rfl, rl_in R⟩)
  by_cases B : 24 < v2
  · exact br_f A (br_t B (br_f A (br_c (fun _ => ⟨rfl, rl_in R⟩) (fun _ => br_f (Int32.not_le.mpr B) ⟨rfl, rl_in R⟩))))
  by_cases C : v1 < v2
  · obtain ⟨a, ha, rfl⟩ := nI_of A
    have c0 : ¬ v2 < 0 := by
      intro z
      exact absurd (Int32.lt_trans C z) A
    obtain ⟨b, hb, rfl⟩ := nI_of2 (M := 24) (n := 24) (by decide) c0 (Int32.not_lt.mp B)
    have hab : a < b := (nI_ltI ha (by omega)).mp C
    have p1 : 2 ^ b ≤ 2 ^ 24 := Nat.pow_le_pow_right (by decide) hb
    have p2 : 1 ≤ 2 ^ b := Nat.one_le_two_pow
    have p3 : 1 ≤ 2 ^ a := Nat.one_le_two_pow
    have eb : (1 : Int32) <<< (nI b &&& 31) - 1 = nI (2 ^ b - 1) := by
      rw [zi_sh (by omega)]
      exact pk_sub (b := 1) p2
    have ea : (1 : Int32) <<< (nI a &&& 31) - 1 = nI (2 ^ a - 1) := by
      rw [zi_sh (by omega)]
      exact pk_sub (b := 1) p3
    have hq24 : zi_d (zi_d (2 ^ b - 1) (2 ^ a - 1)) bm < 2 ^ 24 := zi_dlt (zi_dlt (by omega))
    have hqb : ∀ y, (zi_d (zi_d (2 ^ b - 1) (2 ^ a - 1)) bm).testBit y = (decide (y < b) && !decide (y < a) && !bm.testBit y) := by
      intro y
      rw [zi_dt, zi_dt, Nat.testBit_two_pow_sub_one, Nat.testBit_two_pow_sub_one]
    refine br_f A (br_f B (br_t C ?_))
    unfold wpX_span
    rw [eb, ea, zi_clr]
    dsimp only
    rw [zi_clr]
    generalize zi_d (zi_d (2 ^ b - 1) (2 ^ a - 1)) bm = q at hq24 hqb
    refine nm_e ?_
    rw [zi_or]
    refine xw_begin (fun ow0 h0 => ⟨7, ?_⟩)
    have e0 : im_s 6 (im_ct (fun _ => 6)) = 0 := im_s_0 fun i hi => im_ct_0 (fun _ _ => rfl) hi
    have := xw_fr_out (post := fun r u' => wpY_freeable (fun r' v' => r' = r ∧ i_Rel (k + 4) u' v') (nI bm, wct, yth, afr, aun, amu, amy, awo, yrm, ywt, yod, ykp, ybs) (nI a) (nI b)) (vbl := nI bm) (vkn := vkn) (vll := vll) (aku := aku) (afp := afp) (atg := atg) (s := bm ||| q) (q := q) hpm ok (Nat.or_lt_two_pow hbm hq24) (by omega) (fun rc le ow al ag aw c HO hF => ?_) 6 0 (fun _ => 6) vrc vle ow0 aln agu awb (by omega) (fun t ht => h0 t ht) (fun t _ => Or.inl rfl) (fun i hi => by
      rw [im_ct_0 (fun _ _ => rfl) hi]
      unfold fr_b
      rw [if_neg (by omega)]
      refine ⟨by omega, fun z => ?_⟩
      split at z <;> omega)
    · rw [e0] at this
      exact this
    · unfold wpY_freeable
      dsimp only
      refine br_f A (br_f (Int32.not_le.mpr C) (br_t (Int32.not_lt.mp B) ⟨b - a + 1, ?_⟩))
      have es : im_s 24 (fun y => (bm.testBit y && !bm.testBit y).toNat) = 0 := im_s_0 fun y _ => by cases bm.testBit y <;> rfl
      have := yw_fr_l (post := fun r' v' => r' = nI (im_s 24 (fun t => (q.testBit t).toNat)) - (nI (im_s 6 (im_cm pm mu)) - nI (im_s 6 c)) ∧ i_Rel (k + 4) (nI pm, nI bm, nI (bm ||| q), rc, le, vkn, vll, afr, aun, amu, amy, awo, ow, al, ag, aw, aku, afp, atg) v') (wct := wct) (yod := yod) (ykp := ykp) (ybs := ybs) (bm := bm) (a := a) ok ht hb (fun s rm wt hY => ⟨fr_fin hb hqb HO hF hY, rl_in R⟩) (b - a) a bm yrm ywt (by omega) (Nat.le_refl _) ⟨hbm, fun y h => h, fun y h => Or.inl h, hH, fun y h1 h2 => by omega⟩
      rw [es] at this
      exact this
  · exact br_f A (br_f B (br_f C (br_f A (br_t (Int32.not_lt.mp C) ⟨rfl, rl_in R⟩))))
end
