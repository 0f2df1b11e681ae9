section
theorem pk_us {f : Nat → Int32} {k : Nat} {x : Int32} : upd f k x k = x := if_pos rfl
theorem pk_un {f : Nat → Int32} {k j : Nat} {x : Int32} (h : j ≠ k) : upd f k x j = f j := if_neg h
theorem pk_uLs {f : Nat → Int64} {k : Nat} {x : Int64} : vp_updL f k x k = x := if_pos rfl
theorem pk_uLn {f : Nat → Int64} {k j : Nat} {x : Int64} (h : j ≠ k) : vp_updL f k x j = f j := if_neg h
theorem pk_sub {a b : Nat} (h : b ≤ a) : nI a - nI b = nI (a - b) := by
  obtain ⟨c, rfl⟩ : ∃ c, a = c + b := ⟨a - b, by omega⟩
  rw [← nI_add, Int32.add_sub_cancel, Nat.add_sub_cancel]
theorem pk_m1 (n : Nat) : nI (n + 1) + (-1) = nI n := by
  rw [← nI_1, Int32.add_assoc, show (1 : Int32) + (-1) = 0 from rfl, Int32.add_zero]
theorem pk_mul (a b : Nat) : nI a * nI b = nI (a * b) := (Int32.ofNat_mul a b).symm
theorem pk_div {a d : Nat} (ha : a < 2 ^ 31) (h0 : 0 < d) (hd : d < 2 ^ 31) : nI a / nI d = nI (a / d) := by
  apply Int32.toInt_inj.mp
  rw [lg_idiv_nonneg (by rw [nI_toInt ha]; omega) (by rw [nI_toInt hd]; omega), nI_toInt ha, nI_toInt hd, nI_toInt (Nat.lt_of_le_of_lt (Nat.div_le_self a d) ha)]
  first | rfl | exact (Int.natCast_ediv _ _).symm
theorem pk_ix (x : Int32) {n : Nat} (hn : n < 2 ^ 31) : x < 0 ∨ nI n ≤ x ∨ ∃ j : Nat, j < n ∧ x = nI j := by
  by_cases h : x < 0
  · exact Or.inl h
  · obtain ⟨j, hj, rfl⟩ := nI_of h
    by_cases h2 : j < n
    · exact Or.inr (Or.inr ⟨j, h2, rfl⟩)
    · exact Or.inr (Or.inl (nI_le (by omega) hj))
theorem pk_le {x y : Int32} {A B : Prop} (a b : Nat) (f : a ≤ b → A) (g : b < a → B) (hx : x = nI a := by rfl) (hy : y = nI b := by rfl) (ha : a < 2 ^ 31 := by omega) (hb : b < 2 ^ 31 := by omega) : (x ≤ y → A) ∧ (¬ x ≤ y → B) := by
  subst hx hy
  rw [nI_leI ha hb]
  exact ⟨f, fun z => g (by omega)⟩
theorem pk_lt {x y : Int32} {A B : Prop} (a b : Nat) (f : a < b → A) (g : b ≤ a → B) (hx : x = nI a := by rfl) (hy : y = nI b := by rfl) (ha : a < 2 ^ 31 := by omega) (hb : b < 2 ^ 31 := by omega) : (x < y → A) ∧ (¬ x < y → B) := by
  subst hx hy
  rw [nI_ltI ha hb]
  exact ⟨f, fun z => g (by omega)⟩
theorem pk_eq {x y : Int32} {A B : Prop} (a b : Nat) (f : a = b → A) (g : a ≠ b → B) (hx : x = nI a := by rfl) (hy : y = nI b := by rfl) (ha : a < 2 ^ 31 := by omega) (hb : b < 2 ^ 31 := by omega) : (x = y → A) ∧ (¬ x = y → B) := by
  subst hx hy
  rw [nI_eq ha hb]
  exact ⟨f, g⟩
theorem pk_in {x : Int32} (n N : Nat) (h : n < N) (hx : x = nI n := by rfl) (hN : N < 2 ^ 31 := by omega) : vp_in x N := by
  subst hx
  exact vp_in_nI h hN
theorem pk_cl {x : Int32} (n : Nat) (hx : x = nI n := by rfl) (h : n < 2 ^ 31 := by omega) : x.toNatClampNeg = n := by
  subst hx
  exact nI_clamp h
theorem pk_least (P : Nat → Prop) (h : ∃ k, P k) : ∃ k, P k ∧ ∀ j, j < k → ¬ P j := by
  obtain ⟨k, hk⟩ := h
  induction k using Nat.strongRecOn with
  | ind k ih =>
    by_cases e : ∃ j, j < k ∧ P j
    · obtain ⟨j, hj, pj⟩ := e
      exact ih j hj pj
    · exact ⟨k, hk, fun j hj pj => e ⟨j, hj, pj⟩⟩
end
section
/-! sums, counts, bits of longs -/
noncomputable def pg_B (P : Prop) : Bool := @decide P (Classical.propDecidable P)
theorem pg_B_t {P : Prop} : pg_B P = true ↔ P := by
  unfold pg_B
  exact @decide_eq_true_iff P (Classical.propDecidable P)
theorem pg_B_f {P : Prop} : pg_B P = false ↔ ¬ P := by
  constructor
  · intro h hp
    rw [pg_B_t.mpr hp] at h
    cases h
  · intro h
    cases e : pg_B P with
    | false => rfl
    | true => exact absurd (pg_B_t.mp e) h
theorem pg_B_c {P Q : Prop} (h : P ↔ Q) : pg_B P = pg_B Q := by
  rw [propext h]
theorem pg_beq {a b : Bool} (h : a = true ↔ b = true) : a = b := by
  cases a <;> cases b <;> simp at h ⊢
def pg_sm (f : Nat → Nat) : Nat → Nat
  | 0 => 0
  | n + 1 => pg_sm f n + f n
theorem pg_sm_c {f g : Nat → Nat} : ∀ {n : Nat}, (∀ i, i < n → f i = g i) → pg_sm f n = pg_sm g n
  | 0, _ => rfl
  | n + 1, h => by
    simp only [pg_sm]
    rw [pg_sm_c (fun i hi => h i (by omega)), h n (by omega)]
theorem pg_sm_add (f g : Nat → Nat) : ∀ n : Nat, pg_sm (fun i => f i + g i) n = pg_sm f n + pg_sm g n
  | 0 => rfl
  | n + 1 => by
    simp only [pg_sm]
    rw [pg_sm_add f g n]
    omega
theorem pg_sm_front (f : Nat → Nat) : ∀ n : Nat, pg_sm f (n + 1) = f 0 + pg_sm (fun i => f (i + 1)) n
  | 0 => by simp only [pg_sm]; omega
  | n + 1 => by
    have h := pg_sm_front f n
    simp only [pg_sm] at h ⊢
    omega
theorem pg_sm_le {f g : Nat → Nat} : ∀ {n : Nat}, (∀ i, i < n → f i ≤ g i) → pg_sm f n ≤ pg_sm g n
  | 0, _ => Nat.le_refl _
  | n + 1, h => by
    simp only [pg_sm]
    have a := pg_sm_le (f := f) (g := g) (n := n) (fun i hi => h i (by omega))
    have b := h n (by omega)
    omega
theorem pg_sm_one {f g : Nat → Nat} {j : Nat} : ∀ {n : Nat}, j < n → (∀ i, i < n → i ≠ j → f i = g i) → f j = 0 → pg_sm g n = pg_sm f n + g j
  | 0, h, _, _ => by omega
  | n + 1, h, e, z => by
    simp only [pg_sm]
    by_cases c : j = n
    · subst c
      rw [pg_sm_c (f := g) (g := f) (fun i hi => (e i (by omega) (by omega)).symm), z]
      omega
    · rw [pg_sm_one (f := f) (g := g) (j := j) (n := n) (by omega) (fun i hi hn => e i (by omega) hn) z, e n (by omega) (by omega)]
      omega
theorem pg_sm_ext {f : Nat → Nat} {m : Nat} : ∀ {n : Nat}, m ≤ n → (∀ i, m ≤ i → i < n → f i = 0) → pg_sm f n = pg_sm f m
  | 0, h, _ => by
    have : m = 0 := by omega
    subst this; rfl
  | n + 1, h, z => by
    by_cases c : m = n + 1
    · subst c; rfl
    · simp only [pg_sm]
      rw [pg_sm_ext (n := n) (by omega) (fun i h1 h2 => z i h1 (by omega)), z n (by omega) (by omega)]
      omega
/-- a symmetric sum with an empty diagonal is twice its triangle -/
theorem pg_sm_sym {g : Nat → Nat → Nat} (hs : ∀ i j, g i j = g j i) (h0 : ∀ i, g i i = 0) : ∀ n : Nat, pg_sm (fun i => pg_sm (fun j => g i j) n) n = 2 * pg_sm (fun i => pg_sm (fun j => g i j) i) n
  | 0 => rfl
  | n + 1 => by
    have ih := pg_sm_sym hs h0 n
    have e1 : pg_sm (fun i => pg_sm (fun j => g i j) (n + 1)) n = pg_sm (fun i => pg_sm (fun j => g i j) n) n + pg_sm (fun i => g i n) n := by
      rw [← pg_sm_add]
      exact pg_sm_c (fun i _ => rfl)
    have e2 : pg_sm (fun i => g i n) n = pg_sm (fun j => g n j) n := pg_sm_c (fun i _ => hs i n)
    have e3 : pg_sm (fun j => g n j) (n + 1) = pg_sm (fun j => g n j) n := by
      simp only [pg_sm]; rw [h0]; omega
    show pg_sm (fun i => pg_sm (fun j => g i j) (n + 1)) n + pg_sm (fun j => g n j) (n + 1) = 2 * (pg_sm (fun i => pg_sm (fun j => g i j) i) n + pg_sm (fun j => g n j) n)
    rw [e1, e2, e3, ih]
    omega
def pg_cnt (f : Nat → Bool) (n : Nat) : Nat := pg_sm (fun i => (f i).toNat) n
theorem pg_cnt_0 (f : Nat → Bool) : pg_cnt f 0 = 0 := rfl
theorem pg_cnt_s (f : Nat → Bool) (n : Nat) : pg_cnt f (n + 1) = pg_cnt f n + (f n).toNat := rfl
theorem pg_cnt_t {f : Nat → Bool} {n : Nat} (h : f n = true) : pg_cnt f (n + 1) = pg_cnt f n + 1 := by rw [pg_cnt_s, h]; rfl
theorem pg_cnt_f {f : Nat → Bool} {n : Nat} (h : f n = false) : pg_cnt f (n + 1) = pg_cnt f n := by rw [pg_cnt_s, h]; rfl
theorem pg_cnt_c {f g : Nat → Bool} {n : Nat} (h : ∀ i, i < n → f i = g i) : pg_cnt f n = pg_cnt g n := pg_sm_c (fun i hi => by rw [h i hi])
theorem pg_cnt_front (f : Nat → Bool) (n : Nat) : pg_cnt f (n + 1) = (f 0).toNat + pg_cnt (fun i => f (i + 1)) n := pg_sm_front _ n
theorem pg_cnt_le (f : Nat → Bool) : ∀ n : Nat, pg_cnt f n ≤ n
  | 0 => Nat.le_refl _
  | n + 1 => by
    have h := pg_cnt_le f n
    rw [pg_cnt_s]
    have h2 := Bool.toNat_le (f n)
    omega
theorem pg_cnt_ext {f : Nat → Bool} {m n : Nat} (h : m ≤ n) (z : ∀ i, m ≤ i → f i = false) : pg_cnt f n = pg_cnt f m := pg_sm_ext h (fun i h1 _ => by rw [z i h1]; rfl)
/-- beyond a bound that holds all of f, the count doesn't change -/
theorem pg_cnt_any {f : Nat → Bool} {b m n : Nat} (z : ∀ i, f i = true → i < b) (h1 : b ≤ m) (h2 : b ≤ n) : pg_cnt f m = pg_cnt f n := by
  have k : ∀ i, b ≤ i → f i = false := fun i hi => by
    cases e : f i with
    | false => rfl
    | true => have := z i e; omega
  rw [pg_cnt_ext h1 k, pg_cnt_ext h2 k]
theorem pg_cnt_set {f g : Nat → Bool} {j n : Nat} (hj : j < n) (e : ∀ i, i ≠ j → g i = f i) (z : f j = false) (t : g j = true) : pg_cnt g n = pg_cnt f n + 1 := by
  have h := pg_sm_one (f := fun i => (f i).toNat) (g := fun i => (g i).toNat) (j := j) (n := n) hj (fun i _ hn => by show (f i).toNat = (g i).toNat; rw [e i hn]) (by show (f j).toNat = 0; rw [z]; rfl)
  have h2 : (g j).toNat = 1 := by rw [t]; rfl
  show pg_sm _ n = pg_sm _ n + 1
  rw [h, ← h2]
theorem pg_cnt_mono {f g : Nat → Bool} {n : Nat} (h : ∀ i, i < n → f i = true → g i = true) : pg_cnt f n ≤ pg_cnt g n := pg_sm_le (fun i hi => by
  cases e : f i with
  | false => exact Nat.zero_le _
  | true => rw [h i hi e]; exact Nat.le_refl _)
theorem pg_cnt_lt {f g : Nat → Bool} {j : Nat} (zf : f j = false) (tg : g j = true) : ∀ {n : Nat}, j < n → (∀ i, i < n → f i = true → g i = true) → pg_cnt f n < pg_cnt g n
  | 0, h, _ => by omega
  | n + 1, hj, h => by
    rw [pg_cnt_s, pg_cnt_s]
    by_cases c : j = n
    · subst c
      have a := pg_cnt_mono (f := f) (g := g) (n := j) (fun i hi => h i (by omega))
      rw [zf, tg]
      show pg_cnt f j + 0 < pg_cnt g j + 1
      omega
    · have a := pg_cnt_lt zf tg (n := n) (by omega) (fun i hi => h i (by omega))
      have b : (f n).toNat ≤ (g n).toNat := by
        cases e : f n with
        | false => exact Nat.zero_le _
        | true => rw [h n (by omega) e]; exact Nat.le_refl _
      omega
theorem pg_cnt_z {f : Nat → Bool} : ∀ {n : Nat}, pg_cnt f n = 0 → ∀ i, i < n → f i = false
  | 0, _, i, hi => by omega
  | n + 1, h, i, hi => by
    rw [pg_cnt_s] at h
    by_cases c : i = n
    · subst c
      cases e : f i with
      | false => rfl
      | true =>
        rw [e] at h
        have : true.toNat = 1 := rfl
        omega
    · exact pg_cnt_z (n := n) (by omega) i (by omega)
theorem pg_cnt_pos {f : Nat → Bool} : ∀ {n : Nat}, 0 < pg_cnt f n → ∃ i, i < n ∧ f i = true
  | 0, h => by rw [pg_cnt_0] at h; omega
  | n + 1, h => by
    cases e : f n with
    | true => exact ⟨n, by omega, e⟩
    | false =>
      rw [pg_cnt_f e] at h
      obtain ⟨i, hi, hf⟩ := pg_cnt_pos (n := n) h
      exact ⟨i, by omega, hf⟩
/-! bits -/
def pg_tb (x : Int64) (i : Nat) : Bool := x.toBitVec.getLsbD i
theorem pg_tb_big {x : Int64} {i : Nat} (h : 64 ≤ i) : pg_tb x i = false := BitVec.getLsbD_of_ge _ _ h
theorem pg_tb_lt {x : Int64} {i : Nat} (h : pg_tb x i = true) : i < 64 := by
  rcases Nat.lt_or_ge i 64 with z | z
  · exact z
  · rw [pg_tb_big z] at h; exact absurd h (by decide)
theorem pg_tb_ext {x y : Int64} (h : ∀ i, i < 64 → pg_tb x i = pg_tb y i) : x = y := Int64.toBitVec_inj.mp (BitVec.eq_of_getLsbD_eq (fun i hi => h i hi))
theorem pg_tb_or (x y : Int64) (i : Nat) : pg_tb (x ||| y) i = (pg_tb x i || pg_tb y i) := by unfold pg_tb; rw [Int64.toBitVec_or, BitVec.getLsbD_or]
theorem pg_tb_and (x y : Int64) (i : Nat) : pg_tb (x &&& y) i = (pg_tb x i && pg_tb y i) := by unfold pg_tb; rw [Int64.toBitVec_and, BitVec.getLsbD_and]
theorem pg_m1bv : (-1 : Int64).toBitVec = BitVec.allOnes 64 := by decide
theorem pg_tb_not (x : Int64) {i : Nat} (hi : i < 64) : pg_tb (x ^^^ (-1)) i = !pg_tb x i := by
  unfold pg_tb
  rw [Int64.toBitVec_xor, BitVec.getLsbD_xor, pg_m1bv, BitVec.getLsbD_allOnes, decide_eq_true hi, Bool.xor_true]
theorem pg_tb_andn (x y : Int64) (i : Nat) : pg_tb (x &&& (y ^^^ (-1))) i = (pg_tb x i && !pg_tb y i) := by
  rw [pg_tb_and]
  rcases Nat.lt_or_ge i 64 with h | h
  · rw [pg_tb_not y h]
  · rw [pg_tb_big (x := x) h, Bool.false_and, Bool.false_and]
theorem pg_tb_0 (i : Nat) : pg_tb 0 i = false := BitVec.getLsbD_zero
theorem pg_tb_z {x : Int64} : x = 0 ↔ ∀ i, pg_tb x i = false := by
  constructor
  · intro h i; rw [h]; exact pg_tb_0 i
  · intro h; exact pg_tb_ext (fun i _ => by rw [h i, pg_tb_0])
theorem pg_bitbv : ∀ p, p < 64 → ((1 : Int64) <<< ((nI p).toInt64 &&& 63)).toBitVec = BitVec.twoPow 64 p := by decide +kernel
theorem pg_tb_bit {p : Nat} (hp : p < 64) (i : Nat) : pg_tb ((1 : Int64) <<< ((nI p).toInt64 &&& 63)) i = decide (i = p) := by
  unfold pg_tb
  rw [pg_bitbv p hp, BitVec.getLsbD_twoPow, decide_eq_true hp, Bool.true_and]
  exact decide_eq_decide.mpr ⟨fun h => h.symm, fun h => h.symm⟩
theorem pg_su : ∀ n, n < 64 → (((nI n).toInt64.toUInt64 &&& Int64.toUInt64 63).toBitVec % 64).toNat = n := by decide +kernel
theorem pg_tb_ushr (n : Nat) (hn : n < 64) (x : Int64) (i : Nat) : pg_tb ((x.toUInt64 >>> ((nI n).toInt64.toUInt64 &&& Int64.toUInt64 63)).toInt64) i = pg_tb x (n + i) := by
  show (x.toUInt64 >>> ((nI n).toInt64.toUInt64 &&& Int64.toUInt64 63)).toBitVec.getLsbD i = x.toUInt64.toBitVec.getLsbD (n + i)
  rw [UInt64.toBitVec_shiftRight]
  show (x.toUInt64.toBitVec >>> (((nI n).toInt64.toUInt64 &&& Int64.toUInt64 63).toBitVec % 64).toNat).getLsbD i = _
  rw [pg_su n hn, BitVec.getLsbD_ushiftRight]
theorem pg_tb_1 : ∀ i, i < 64 → pg_tb 1 i = decide (i = 0) := by decide +kernel
theorem pg_and1 (y : Int64) : y &&& 1 = 1 ↔ pg_tb y 0 = true := by
  constructor
  · intro h
    have h1 : pg_tb (y &&& 1) 0 = pg_tb 1 0 := by rw [h]
    rw [pg_tb_and, pg_tb_1 0 (by decide)] at h1
    simpa using h1
  · intro h
    refine pg_tb_ext (fun i hi => ?_)
    rw [pg_tb_and, pg_tb_1 i hi]
    by_cases c : i = 0
    · subst c; rw [h]; rfl
    · rw [decide_eq_false c, Bool.and_false]
theorem pg_has {x : Int64} {p : Nat} (hp : p < 64) : ((x.toUInt64 >>> ((nI p).toInt64.toUInt64 &&& Int64.toUInt64 63)).toInt64) &&& 1 = 1 ↔ pg_tb x p = true := by
  rw [pg_and1, pg_tb_ushr p hp, Nat.add_zero]
theorem pg_low : ∀ (k n : Nat), 0 < n → n < 2 ^ k → pg_cnt (fun i => n.testBit i && (n - 1).testBit i) k + 1 = pg_cnt (fun i => n.testBit i) k
  | 0, n, h0, h => by simp at h; omega
  | k + 1, n, h0, h => by
    rw [pg_cnt_front, pg_cnt_front]
    have e1 : ∀ i, n.testBit (i + 1) = (n / 2).testBit i := fun i => Nat.testBit_succ n i
    have e2 : ∀ i, (n - 1).testBit (i + 1) = ((n - 1) / 2).testBit i := fun i => Nat.testBit_succ (n - 1) i
    have hp : 2 ^ (k + 1) = 2 ^ k * 2 := Nat.pow_succ 2 k
    rcases Nat.mod_two_eq_zero_or_one n with c | c
    · have z0 : n.testBit 0 = false := by rw [Nat.testBit_zero]; exact decide_eq_false (by omega)
      have z1 : (n - 1) / 2 = n / 2 - 1 := by omega
      have ih := pg_low k (n / 2) (by omega) (by omega)
      rw [z0, Bool.false_and]
      have ea : pg_cnt (fun i => n.testBit (i + 1) && (n - 1).testBit (i + 1)) k = pg_cnt (fun i => (n / 2).testBit i && (n / 2 - 1).testBit i) k := pg_cnt_c (fun i _ => by rw [e1, e2, z1])
      have eb : pg_cnt (fun i => n.testBit (i + 1)) k = pg_cnt (fun i => (n / 2).testBit i) k := pg_cnt_c (fun i _ => by rw [e1])
      rw [ea, eb]
      omega
    · have z0 : n.testBit 0 = true := by rw [Nat.testBit_zero]; exact decide_eq_true (by omega)
      have zz : (n - 1).testBit 0 = false := by rw [Nat.testBit_zero]; exact decide_eq_false (by omega)
      have z1 : (n - 1) / 2 = n / 2 := by omega
      rw [z0, zz, Bool.and_false]
      have ea : pg_cnt (fun i => n.testBit (i + 1) && (n - 1).testBit (i + 1)) k = pg_cnt (fun i => n.testBit (i + 1)) k := pg_cnt_c (fun i _ => by rw [e1, e2, z1, Bool.and_self])
      rw [ea]
      have t1 : true.toNat = 1 := rfl
      have t0 : false.toNat = 0 := rfl
      omega
theorem pg_tb_n (x : Int64) (i : Nat) : pg_tb x i = x.toBitVec.toNat.testBit i := by
  unfold pg_tb
  rfl
theorem pg_clear {x : Int64} (h : ¬ x = 0) : pg_cnt (pg_tb (x &&& (x - 1))) 64 + 1 = pg_cnt (pg_tb x) 64 := by
  have hn : 0 < x.toBitVec.toNat := by
    rcases Nat.eq_zero_or_pos x.toBitVec.toNat with z | z
    · exfalso
      apply h
      exact Int64.toBitVec_inj.mp (BitVec.eq_of_toNat_eq z)
    · exact z
  have hl : x.toBitVec.toNat < 2 ^ 64 := x.toBitVec.isLt
  have e : (x - 1).toBitVec.toNat = x.toBitVec.toNat - 1 := by
    rw [Int64.toBitVec_sub, BitVec.toNat_sub]
    have o : (1 : Int64).toBitVec.toNat = 1 := by decide
    rw [o]
    omega
  have k := pg_low 64 x.toBitVec.toNat hn hl
  rw [← e] at k
  have e1 : pg_cnt (pg_tb (x &&& (x - 1))) 64 = pg_cnt (fun i => x.toBitVec.toNat.testBit i && (x - 1).toBitVec.toNat.testBit i) 64 := pg_cnt_c (fun i _ => by rw [pg_tb_and, pg_tb_n, pg_tb_n])
  have e2 : pg_cnt (pg_tb x) 64 = pg_cnt (fun i => x.toBitVec.toNat.testBit i) 64 := pg_cnt_c (fun i _ => pg_tb_n x i)
  rw [e1, e2]
  exact k
end
section
/-! the least transitive relation over E -/
def pg_cl (E : Nat → Nat → Prop) (a b : Nat) : Prop := ∀ T : Nat → Nat → Prop, (∀ x y, E x y → T x y) → (∀ x y z, T x y → T y z → T x z) → T a b
theorem pg_cl_b {E : Nat → Nat → Prop} {a b : Nat} (h : E a b) : pg_cl E a b := fun _ hb _ => hb a b h
theorem pg_cl_t {E : Nat → Nat → Prop} {a b c : Nat} (h : pg_cl E a b) (k : pg_cl E b c) : pg_cl E a c := fun T hb ht => ht a b c (h T hb ht) (k T hb ht)
theorem pg_cl_m {E F : Nat → Nat → Prop} (h : ∀ x y, E x y → F x y) {a b : Nat} (k : pg_cl E a b) : pg_cl F a b := k (pg_cl F) (fun x y e => pg_cl_b (h x y e)) (fun _ _ _ => pg_cl_t)
theorem pg_cl_c {E F : Nat → Nat → Prop} (h : ∀ x y, E x y ↔ F x y) (a b : Nat) : pg_cl E a b ↔ pg_cl F a b := ⟨pg_cl_m (fun x y => (h x y).mp), pg_cl_m (fun x y => (h x y).mpr)⟩
/-- the last step -/
theorem pg_cl_last {E : Nat → Nat → Prop} {a c : Nat} (h : pg_cl E a c) : E a c ∨ ∃ b, pg_cl E a b ∧ E b c := by
  have key : ∀ x y, (E x y ∨ ∃ b, pg_cl E x b ∧ E b y) → pg_cl E x y := by
    intro x y k
    rcases k with k | ⟨b, k1, k2⟩
    · exact pg_cl_b k
    · exact pg_cl_t k1 (pg_cl_b k2)
  refine h (fun x y => E x y ∨ ∃ b, pg_cl E x b ∧ E b y) (fun x y e => Or.inl e) ?_
  intro x y z h1 h2
  have k1 := key x y h1
  rcases h2 with h2 | ⟨b, h2, h3⟩
  · exact Or.inr ⟨y, k1, h2⟩
  · exact Or.inr ⟨b, pg_cl_t k1 h2, h3⟩
/-- the first step -/
theorem pg_cl_first {E : Nat → Nat → Prop} {a c : Nat} (h : pg_cl E a c) : ∃ b, E a b ∧ (b = c ∨ pg_cl E b c) := by
  have key : ∀ x y, (∃ b, E x b ∧ (b = y ∨ pg_cl E b y)) → pg_cl E x y := by
    intro x y k
    obtain ⟨b, k1, k2⟩ := k
    rcases k2 with k2 | k2
    · subst k2; exact pg_cl_b k1
    · exact pg_cl_t (pg_cl_b k1) k2
  refine h (fun x y => ∃ b, E x b ∧ (b = y ∨ pg_cl E b y)) (fun x y e => ⟨y, e, Or.inl rfl⟩) ?_
  intro x y z h1 h2
  have k2 := key y z h2
  obtain ⟨b, h3, h4⟩ := h1
  refine ⟨b, h3, Or.inr ?_⟩
  rcases h4 with h4 | h4
  · subst h4; exact k2
  · exact pg_cl_t h4 k2
/-- one step more -/
theorem pg_cl_step {E F : Nat → Nat → Prop} {f t : Nat} (hF : ∀ x y, F x y ↔ E x y ∨ (x = f ∧ y = t)) (a c : Nat) : pg_cl F a c ↔ (pg_cl E a c ∨ ((pg_cl E a f ∨ a = f) ∧ (pg_cl E t c ∨ c = t))) := by
  have hm : ∀ {x y}, pg_cl E x y → pg_cl F x y := fun h => pg_cl_m (fun x y e => (hF x y).mpr (Or.inl e)) h
  have hft : pg_cl F f t := pg_cl_b ((hF f t).mpr (Or.inr ⟨rfl, rfl⟩))
  constructor
  · intro h
    refine h (fun a c => pg_cl E a c ∨ ((pg_cl E a f ∨ a = f) ∧ (pg_cl E t c ∨ c = t))) ?_ ?_
    · intro x y e
      rcases (hF x y).mp e with e | ⟨e1, e2⟩
      · exact Or.inl (pg_cl_b e)
      · exact Or.inr ⟨Or.inr e1, Or.inr e2⟩
    · intro x y z h1 h2
      rcases h1 with h1 | ⟨h1, h1'⟩
      · rcases h2 with h2 | ⟨h2, h2'⟩
        · exact Or.inl (pg_cl_t h1 h2)
        · refine Or.inr ⟨Or.inl ?_, h2'⟩
          rcases h2 with h2 | h2
          · exact pg_cl_t h1 h2
          · subst h2; exact h1
      · rcases h2 with h2 | ⟨h2, h2'⟩
        · refine Or.inr ⟨h1, Or.inl ?_⟩
          rcases h1' with h1' | h1'
          · exact pg_cl_t h1' h2
          · subst h1'; exact h2
        · exact Or.inr ⟨h1, h2'⟩
  · intro h
    rcases h with h | ⟨h1, h2⟩
    · exact hm h
    · have k1 : pg_cl F a t := by
        rcases h1 with h1 | h1
        · exact pg_cl_t (hm h1) hft
        · subst h1; exact hft
      rcases h2 with h2 | h2
      · exact pg_cl_t k1 (hm h2)
      · subst h2; exact k1
/-- ends of the closure are ends of steps -/
theorem pg_cl_ends {E : Nat → Nat → Prop} {P : Nat → Prop} (h : ∀ x y, E x y → P x ∧ P y) {a b : Nat} (k : pg_cl E a b) : P a ∧ P b := k (fun x y => P x ∧ P y) h (fun _ _ _ h1 h2 => ⟨h1.1, h2.2⟩)
/-- two relations that are alike from below m, and stay below -/
theorem pg_cl_below {E F : Nat → Nat → Prop} {m : Nat} (h : ∀ x y, x < m → (E x y ↔ F x y)) (hb : ∀ x y, x < m → E x y → y < m) {a b : Nat} (ha : a < m) : pg_cl E a b ↔ pg_cl F a b := by
  constructor
  · intro k
    exact (k (fun x y => x < m → y < m ∧ pg_cl F x y) (fun x y e hx => ⟨hb x y hx e, pg_cl_b ((h x y hx).mp e)⟩) (fun x y z h1 h2 hx => ⟨(h2 (h1 hx).1).1, pg_cl_t (h1 hx).2 (h2 (h1 hx).1).2⟩) ha).2
  · intro k
    exact (k (fun x y => x < m → y < m ∧ pg_cl E x y) (fun x y e hx => ⟨hb x y hx ((h x y hx).mpr e), pg_cl_b ((h x y hx).mpr e)⟩) (fun x y z h1 h2 hx => ⟨(h2 (h1 hx).1).1, pg_cl_t (h1 hx).2 (h2 (h1 hx).1).2⟩) ha).2
/-! the abstract state: ins, uu, ll of the patches, S a store's patches -/
def pg_E (ins : Nat → Bool) (uu ll : Nat → Option Nat) (S : Nat → Bool) (a b : Nat) : Prop := ∃ p, S p = true ∧ ins p = true ∧ ((p = a ∧ ll p = some b) ∨ (uu p = some a ∧ p = b))
def pg_D (uu ll : Nat → Option Nat) (p q : Nat) : Prop := uu p = some q ∨ ll p = some q
noncomputable def pg_ld (ins : Nat → Bool) (uu ll : Nat → Option Nat) (S : Nat → Bool) (a b : Nat) : Bool := pg_B (pg_cl (pg_E ins uu ll S) a b)
noncomputable def pg_nd (uu ll : Nat → Option Nat) (p q : Nat) : Bool := pg_B (pg_cl (pg_D uu ll) p q)
noncomputable def pg_sk (ins : Nat → Bool) (uu : Nat → Option Nat) (S : Nat → Bool) (a : Nat) : Bool := pg_B (∃ p, S p = true ∧ ins p = false ∧ uu p = some a)
noncomputable def pg_op (ins : Nat → Bool) (uu : Nat → Option Nat) (S : Nat → Bool) (a : Nat) : Bool := S a && ins a && !pg_sk ins uu S a
/-- the patches: needs have lesser numbers and are lines; one that strikes out has an upper line alone -/
def pg_WP (m : Nat) (ins : Nat → Bool) (uu ll : Nat → Option Nat) : Prop := m ≤ 60 ∧ ∀ p, p < m → (∀ q, uu p = some q → q < p ∧ ins q = true) ∧ (∀ q, ll p = some q → q < p ∧ ins q = true) ∧ (ins p = false → ll p = none ∧ ∃ q, uu p = some q)
/-- a store's patches: below m, with their needs -/
def pg_CS (m : Nat) (uu ll : Nat → Option Nat) (S : Nat → Bool) : Prop := ∀ p, S p = true → p < m ∧ ∀ q, pg_D uu ll p q → S q = true
section
variable {m : Nat} {ins : Nat → Bool} {uu ll : Nat → Option Nat} {S : Nat → Bool}
theorem pg_ld_t {a b c : Nat} (h1 : pg_ld ins uu ll S a b = true) (h2 : pg_ld ins uu ll S b c = true) : pg_ld ins uu ll S a c = true := pg_B_t.mpr (pg_cl_t (pg_B_t.mp h1) (pg_B_t.mp h2))
theorem pg_E_ends (hW : pg_WP m ins uu ll) (hS : pg_CS m uu ll S) {a b : Nat} (h : pg_E ins uu ll S a b) : (S a = true ∧ ins a = true) ∧ (S b = true ∧ ins b = true) := by
  obtain ⟨p, h1, h2, h3⟩ := h
  have hp := hS p h1
  have hw := hW.2 p hp.1
  rcases h3 with ⟨rfl, h3⟩ | ⟨h3, rfl⟩
  · exact ⟨⟨h1, h2⟩, ⟨hp.2 b (Or.inr h3), (hw.2.1 b h3).2⟩⟩
  · exact ⟨⟨hp.2 a (Or.inl h3), (hw.1 a h3).2⟩, ⟨h1, h2⟩⟩
theorem pg_ld_ends (hW : pg_WP m ins uu ll) (hS : pg_CS m uu ll S) {a b : Nat} (h : pg_ld ins uu ll S a b = true) : (S a = true ∧ ins a = true) ∧ (S b = true ∧ ins b = true) :=
  pg_cl_ends (P := fun x => S x = true ∧ ins x = true) (fun _ _ e => pg_E_ends hW hS e) (pg_B_t.mp h)
theorem pg_op_in {a : Nat} (h : pg_op ins uu S a = true) : S a = true ∧ ins a = true := by
  unfold pg_op at h
  simp only [Bool.and_eq_true] at h
  exact h.1
theorem pg_D_lt (hW : pg_WP m ins uu ll) {p q : Nat} (hp : p < m) (h : pg_D uu ll p q) : q < p := by
  have hw := hW.2 p hp
  rcases h with h | h
  · exact (hw.1 q h).1
  · exact (hw.2.1 q h).1
theorem pg_nd_lt (hW : pg_WP m ins uu ll) {p q : Nat} (hp : p < m) (h : pg_nd uu ll p q = true) : q < p :=
  ((pg_B_t.mp h) (fun x y => x < m → y < x) (fun _ _ e hx => pg_D_lt hW hx e) (fun x y z h1 h2 hx => by
    have a := h1 hx
    have b := h2 (by omega)
    omega)) hp
/-- a store has all that its patches need -/
theorem pg_nd_in (hS : pg_CS m uu ll S) {p q : Nat} (hp : S p = true) (h : pg_nd uu ll p q = true) : S q = true :=
  ((pg_B_t.mp h) (fun x y => S x = true → S y = true) (fun x y e hx => (hS x hx).2 y e) (fun x y z h1 h2 hx => h2 (h1 hx))) hp
/-- needed by some patch of a store: needed by one that is next to it -/
theorem pg_nd_next (hS : pg_CS m uu ll S) (p : Nat) : (∃ q, S q = true ∧ pg_nd uu ll q p = true) ↔ ∃ q, S q = true ∧ pg_D uu ll q p := by
  constructor
  · rintro ⟨q, h1, h2⟩
    rcases pg_cl_last (pg_B_t.mp h2) with h | ⟨b, h3, h4⟩
    · exact ⟨q, h1, h⟩
    · exact ⟨b, pg_nd_in hS h1 (pg_B_t.mpr h3), h4⟩
  · rintro ⟨q, h1, h2⟩
    exact ⟨q, h1, pg_B_t.mpr (pg_cl_b h2)⟩
end
/-- other patches than those of the store don't matter -/
theorem pg_E_c {ins ins' : Nat → Bool} {uu uu' ll ll' : Nat → Option Nat} {S : Nat → Bool} (h : ∀ p, S p = true → ins' p = ins p ∧ uu' p = uu p ∧ ll' p = ll p) : pg_ld ins' uu' ll' S = pg_ld ins uu ll S := by
  funext a b
  refine pg_B_c (pg_cl_c (fun x y => ?_) a b)
  constructor
  · rintro ⟨p, h1, h2, h3⟩
    obtain ⟨e1, e2, e3⟩ := h p h1
    rw [e1] at h2
    rw [e2, e3] at h3
    exact ⟨p, h1, h2, h3⟩
  · rintro ⟨p, h1, h2, h3⟩
    obtain ⟨e1, e2, e3⟩ := h p h1
    rw [← e1] at h2
    rw [← e2, ← e3] at h3
    exact ⟨p, h1, h2, h3⟩
theorem pg_sk_c {ins ins' : Nat → Bool} {uu uu' : Nat → Option Nat} {S : Nat → Bool} (h : ∀ p, S p = true → ins' p = ins p ∧ uu' p = uu p) : pg_sk ins' uu' S = pg_sk ins uu S := by
  funext a
  refine pg_B_c ?_
  constructor
  · rintro ⟨p, h1, h2, h3⟩
    obtain ⟨e1, e2⟩ := h p h1
    rw [e1] at h2
    rw [e2] at h3
    exact ⟨p, h1, h2, h3⟩
  · rintro ⟨p, h1, h2, h3⟩
    obtain ⟨e1, e2⟩ := h p h1
    rw [← e1] at h2
    rw [← e2] at h3
    exact ⟨p, h1, h2, h3⟩
theorem pg_op_c {ins ins' : Nat → Bool} {uu uu' : Nat → Option Nat} {S : Nat → Bool} (h : ∀ p, S p = true → ins' p = ins p ∧ uu' p = uu p) : pg_op ins' uu' S = pg_op ins uu S := by
  funext a
  unfold pg_op
  rw [pg_sk_c h]
  cases e : S a with
  | false => rfl
  | true => rw [(h a e).1]
/-! a store with one patch more -/
def pg_ad (S : Nat → Bool) (p : Nat) : Nat → Bool := fun q => S q || decide (q = p)
theorem pg_ad_s (S : Nat → Bool) (p : Nat) : pg_ad S p p = true := by unfold pg_ad; simp
theorem pg_ad_n (S : Nat → Bool) {p q : Nat} (h : q ≠ p) : pg_ad S p q = S q := by unfold pg_ad; simp [h]
theorem pg_ad_t {S : Nat → Bool} {p q : Nat} (h : S q = true) : pg_ad S p q = true := by unfold pg_ad; simp [h]
theorem pg_ad_i {S : Nat → Bool} {p q : Nat} (h : pg_ad S p q = true) : S q = true ∨ q = p := by
  unfold pg_ad at h
  simpa using h
theorem pg_CS_ad {m : Nat} {uu ll : Nat → Option Nat} {S : Nat → Bool} {p : Nat} (hS : pg_CS m uu ll S) (hp : p < m) (hd : ∀ q, pg_D uu ll p q → S q = true) : pg_CS m uu ll (pg_ad S p) := by
  intro q hq
  rcases pg_ad_i hq with h | h
  · exact ⟨(hS q h).1, fun r hr => pg_ad_t ((hS q h).2 r hr)⟩
  · subst h
    exact ⟨hp, fun r hr => pg_ad_t (hd r hr)⟩
/-- the steps that a new patch brings -/
theorem pg_E_ad {ins : Nat → Bool} {uu ll : Nat → Option Nat} {S : Nat → Bool} {p : Nat} (x y : Nat) : pg_E ins uu ll (pg_ad S p) x y ↔ pg_E ins uu ll S x y ∨ (ins p = true ∧ ((x = p ∧ ll p = some y) ∨ (uu p = some x ∧ y = p))) := by
  constructor
  · rintro ⟨q, h1, h2, h3⟩
    rcases pg_ad_i h1 with h | h
    · exact Or.inl ⟨q, h, h2, h3⟩
    · subst h
      refine Or.inr ⟨h2, ?_⟩
      rcases h3 with ⟨e, h3⟩ | ⟨h3, e⟩
      · exact Or.inl ⟨e.symm, h3⟩
      · exact Or.inr ⟨h3, e.symm⟩
  · rintro (⟨q, h1, h2, h3⟩ | ⟨h2, h3⟩)
    · exact ⟨q, pg_ad_t h1, h2, h3⟩
    · refine ⟨p, pg_ad_s S p, h2, ?_⟩
      rcases h3 with ⟨e, h3⟩ | ⟨h3, e⟩
      · exact Or.inl ⟨e.symm, h3⟩
      · exact Or.inr ⟨h3, e.symm⟩
theorem pg_sk_ad {ins : Nat → Bool} {uu : Nat → Option Nat} {S : Nat → Bool} {p : Nat} (a : Nat) : pg_sk ins uu (pg_ad S p) a = (pg_sk ins uu S a || (!ins p && decide (uu p = some a))) := by
  refine pg_beq ?_
  rw [Bool.or_eq_true, Bool.and_eq_true, decide_eq_true_iff]
  unfold pg_sk
  rw [pg_B_t, pg_B_t]
  constructor
  · rintro ⟨q, h1, h2, h3⟩
    rcases pg_ad_i h1 with h | h
    · exact Or.inl ⟨q, h, h2, h3⟩
    · subst h
      exact Or.inr ⟨by rw [h2]; rfl, h3⟩
  · rintro (⟨q, h1, h2, h3⟩ | ⟨h2, h3⟩)
    · exact ⟨q, pg_ad_t h1, h2, h3⟩
    · refine ⟨p, pg_ad_s S p, ?_, h3⟩
      cases e : ins p with
      | false => rfl
      | true => rw [e] at h2; exact absurd h2 (by decide)
end
section
/-! one step more, by bits -/
def pg_stp (L : Nat → Nat → Bool) (f t a c : Nat) : Bool := L a c || ((L a f || decide (a = f)) && (L t c || decide (c = t)))
theorem pg_stp_cl {L : Nat → Nat → Bool} {E F : Nat → Nat → Prop} {f t : Nat} (hL : ∀ a c, L a c = pg_B (pg_cl E a c)) (hF : ∀ x y, F x y ↔ E x y ∨ (x = f ∧ y = t)) (a c : Nat) : pg_stp L f t a c = pg_B (pg_cl F a c) := by
  refine pg_beq ?_
  rw [pg_B_t, pg_cl_step hF a c]
  unfold pg_stp
  rw [hL, hL, hL]
  simp only [Bool.or_eq_true, Bool.and_eq_true, decide_eq_true_eq, pg_B_t]
/-- a step that is there already brings nothing -/
theorem pg_stp_id {L : Nat → Nat → Bool} (hT : ∀ a b c, L a b = true → L b c = true → L a c = true) {f t : Nat} (h : L f t = true) (a c : Nat) : pg_stp L f t a c = L a c := by
  refine pg_beq ?_
  unfold pg_stp
  simp only [Bool.or_eq_true, Bool.and_eq_true, decide_eq_true_eq]
  constructor
  · rintro (k | ⟨k1, k2⟩)
    · exact k
    · have e1 : L a t = true := by
        rcases k1 with k1 | k1
        · exact hT a f t k1 h
        · subst k1; exact h
      rcases k2 with k2 | k2
      · exact hT a t c e1 k2
      · subst k2; exact e1
  · exact Or.inl
/-- the steps of a store with one line more -/
theorem pg_ld_ad {ins : Nat → Bool} {uu ll : Nat → Option Nat} {S : Nat → Bool} {p : Nat} (hi : ins p = true) :
    (uu p = none → ll p = none → ∀ a c, pg_ld ins uu ll (pg_ad S p) a c = pg_ld ins uu ll S a c) ∧
    (∀ f, uu p = some f → ll p = none → ∀ a c, pg_ld ins uu ll (pg_ad S p) a c = pg_stp (pg_ld ins uu ll S) f p a c) ∧
    (∀ t, uu p = none → ll p = some t → ∀ a c, pg_ld ins uu ll (pg_ad S p) a c = pg_stp (pg_ld ins uu ll S) p t a c) ∧
    (∀ f t, uu p = some f → ll p = some t → ∀ a c, pg_ld ins uu ll (pg_ad S p) a c = pg_stp (pg_stp (pg_ld ins uu ll S) f p) p t a c) := by
  refine ⟨?_, ?_, ?_, ?_⟩
  · intro hu hl a c
    refine pg_B_c (pg_cl_c (fun x y => ?_) a c)
    rw [pg_E_ad, hu, hl]
    simp
  · intro f hu hl a c
    refine (pg_stp_cl (E := pg_E ins uu ll S) (fun _ _ => rfl) (fun x y => ?_) a c).symm
    rw [pg_E_ad, hu, hl]
    simp [hi]
    constructor
    · rintro (h | ⟨h1, h2⟩)
      · exact Or.inl h
      · exact Or.inr ⟨h1.symm, h2⟩
    · rintro (h | ⟨h1, h2⟩)
      · exact Or.inl h
      · exact Or.inr ⟨h1.symm, h2⟩
  · intro t hu hl a c
    refine (pg_stp_cl (E := pg_E ins uu ll S) (fun _ _ => rfl) (fun x y => ?_) a c).symm
    rw [pg_E_ad, hu, hl]
    simp [hi]
    constructor
    · rintro (h | ⟨h1, h2⟩)
      · exact Or.inl h
      · exact Or.inr ⟨h1, h2.symm⟩
    · rintro (h | ⟨h1, h2⟩)
      · exact Or.inl h
      · exact Or.inr ⟨h1, h2.symm⟩
  · intro f t hu hl a c
    refine (pg_stp_cl (E := fun x y => pg_E ins uu ll S x y ∨ (x = f ∧ y = p)) (fun a c => pg_stp_cl (E := pg_E ins uu ll S) (fun _ _ => rfl) (fun x y => Iff.rfl) a c) (fun x y => ?_) a c).symm
    rw [pg_E_ad, hu, hl]
    simp only [hi, true_and, Option.some.injEq]
    constructor
    · rintro (h | ⟨h1, h2⟩ | ⟨h1, h2⟩)
      · exact Or.inl (Or.inl h)
      · exact Or.inr ⟨h1, h2.symm⟩
      · exact Or.inl (Or.inr ⟨h1.symm, h2⟩)
    · rintro ((h | ⟨h1, h2⟩) | ⟨h1, h2⟩)
      · exact Or.inl h
      · exact Or.inr (Or.inr ⟨h1.symm, h2⟩)
      · exact Or.inr (Or.inl ⟨h1, h2.symm⟩)
/-! texts: R the lines to come, L which leads to which -/
noncomputable def pg_fr (R : Nat → Bool) (L : Nat → Nat → Bool) (a : Nat) : Bool := pg_B (R a = true ∧ ∀ b, R b = true → b ≠ a → L b a = true → L a b = true)
noncomputable def pg_nx (f : Nat → Bool) : Nat := Classical.epsilon (fun a => f a = true ∧ ∀ j, j < a → f j = false)
noncomputable def pg_rs (R : Nat → Bool) (L : Nat → Nat → Bool) : Nat → Nat → Bool
  | 0 => R
  | k + 1 => fun a => pg_rs R L k a && !decide (a = pg_nx (pg_fr (pg_rs R L k) L))
noncomputable def pg_tt (R : Nat → Bool) (L : Nat → Nat → Bool) (k : Nat) : Nat := pg_nx (pg_fr (pg_rs R L k) L)
def pg_tn (R : Nat → Bool) : Nat := pg_cnt R 60
theorem pg_nx_ok {f : Nat → Bool} (h : ∃ a, f a = true) : f (pg_nx f) = true ∧ ∀ j, j < pg_nx f → f j = false := by
  obtain ⟨a, h1, h2⟩ := pk_least (fun a => f a = true) h
  refine Classical.epsilon_spec (p := fun a => f a = true ∧ ∀ j, j < a → f j = false) ⟨a, h1, fun j hj => ?_⟩
  cases e : f j with
  | false => rfl
  | true => exact absurd e (h2 j hj)
theorem pg_nx_eq {f : Nat → Bool} {a : Nat} (h : f a = true) (h2 : ∀ j, j < a → f j = false) : pg_nx f = a := by
  obtain ⟨k1, k2⟩ := pg_nx_ok ⟨a, h⟩
  rcases Nat.lt_trichotomy (pg_nx f) a with c | c | c
  · rw [h2 _ c] at k1; exact absurd k1 (by decide)
  · exact c
  · rw [k2 _ c] at h; exact absurd h (by decide)
theorem pg_rs_0 (R : Nat → Bool) (L : Nat → Nat → Bool) : pg_rs R L 0 = R := rfl
theorem pg_rs_s (R : Nat → Bool) (L : Nat → Nat → Bool) (k a : Nat) : pg_rs R L (k + 1) a = (pg_rs R L k a && !decide (a = pg_tt R L k)) := rfl
theorem pg_rs_in {R : Nat → Bool} {L : Nat → Nat → Bool} : ∀ {k a : Nat}, pg_rs R L k a = true → R a = true
  | 0, _, h => h
  | k + 1, a, h => by
    rw [pg_rs_s, Bool.and_eq_true] at h
    exact pg_rs_in h.1
section
variable {R : Nat → Bool} {L : Nat → Nat → Bool}
theorem pg_fr_ex (hR : ∀ a, R a = true → a < 60) (hT : ∀ a b c, L a b = true → L b c = true → L a c = true) (h : ∃ a, R a = true) : ∃ a, pg_fr R L a = true := by
  obtain ⟨a0, h0⟩ := h
  have key : ∀ (n a : Nat), R a = true → pg_cnt (fun b => R b && (L b a && !L a b)) 60 < n → ∃ a, pg_fr R L a = true := by
    intro n
    induction n with
    | zero => intro a _ hn; omega
    | succ n ih =>
      intro a ha hn
      by_cases c : ∀ b, R b = true → b ≠ a → L b a = true → L a b = true
      · exact ⟨a, pg_B_t.mpr ⟨ha, c⟩⟩
      · have ⟨b, hb⟩ := Classical.not_forall.mp c
        have ⟨b1, hb⟩ := Classical.not_imp.mp hb
        have ⟨b2, hb⟩ := Classical.not_imp.mp hb
        have ⟨b3, b4⟩ := Classical.not_imp.mp hb
        refine ih b b1 ?_
        have z4 : L a b = false := by
          cases e : L a b with
          | false => rfl
          | true => exact absurd e b4
        have := pg_cnt_lt (f := fun x => R x && (L x b && !L b x)) (g := fun x => R x && (L x a && !L a x)) (j := b) (n := 60) (by simp) (by simp [b1, b3, z4]) (hR b b1) (by
          intro i _ hi
          simp only [Bool.and_eq_true, Bool.not_eq_true'] at hi ⊢
          refine ⟨hi.1, hT i b a hi.2.1 b3, ?_⟩
          cases e : L a i with
          | false => rfl
          | true =>
            have z := hT b a i b3 e
            rw [hi.2.2] at z
            exact absurd z (by decide))
        omega
  exact key _ a0 h0 (Nat.lt_succ_self _)
theorem pg_rs_lt (hR : ∀ a, R a = true → a < 60) {k a : Nat} (h : pg_rs R L k a = true) : a < 60 := hR a (pg_rs_in h)
theorem pg_rs_pos (hR : ∀ a, R a = true → a < 60) (hT : ∀ a b c, L a b = true → L b c = true → L a c = true) {k : Nat} (h : ∃ a, pg_rs R L k a = true) : pg_fr (pg_rs R L k) L (pg_tt R L k) = true ∧ ∀ j, j < pg_tt R L k → pg_fr (pg_rs R L k) L j = false :=
  pg_nx_ok (pg_fr_ex (fun _ ha => pg_rs_lt hR ha) hT h)
theorem pg_rs_cnt (hR : ∀ a, R a = true → a < 60) (hT : ∀ a b c, L a b = true → L b c = true → L a c = true) : ∀ k, k ≤ pg_tn R → pg_cnt (pg_rs R L k) 60 + k = pg_tn R
  | 0, _ => by rw [pg_rs_0]; rfl
  | k + 1, hk => by
    have ih := pg_rs_cnt hR hT k (by omega)
    obtain ⟨i, hi, hf⟩ := pg_cnt_pos (f := pg_rs R L k) (n := 60) (by omega)
    have ok := (pg_rs_pos hR hT ⟨i, hf⟩).1
    have hin := (pg_B_t.mp ok).1
    have := pg_cnt_set (f := pg_rs R L (k + 1)) (g := pg_rs R L k) (j := pg_tt R L k) (n := 60) (pg_rs_lt hR hin) (fun x hx => by rw [pg_rs_s]; simp [hx]) (by rw [pg_rs_s]; simp) hin
    omega
theorem pg_tn_le : pg_tn R ≤ 60 := pg_cnt_le R 60
theorem pg_rs_ne (hR : ∀ a, R a = true → a < 60) (hT : ∀ a b c, L a b = true → L b c = true → L a c = true) {k : Nat} (hk : k < pg_tn R) : ∃ a, pg_rs R L k a = true := by
  have h := pg_rs_cnt hR hT k (by omega)
  obtain ⟨i, hi, hf⟩ := pg_cnt_pos (f := pg_rs R L k) (n := 60) (by omega)
  exact ⟨i, hf⟩
theorem pg_rs_end (hR : ∀ a, R a = true → a < 60) (hT : ∀ a b c, L a b = true → L b c = true → L a c = true) (a : Nat) : pg_rs R L (pg_tn R) a = false := by
  have h := pg_rs_cnt hR hT (pg_tn R) (Nat.le_refl _)
  cases e : pg_rs R L (pg_tn R) a with
  | false => rfl
  | true =>
    have z := pg_cnt_z (f := pg_rs R L (pg_tn R)) (n := 60) (by omega) a (pg_rs_lt hR e)
    rw [e] at z
    exact z
theorem pg_tt_fr (hR : ∀ a, R a = true → a < 60) (hT : ∀ a b c, L a b = true → L b c = true → L a c = true) {k : Nat} (hk : k < pg_tn R) : pg_fr (pg_rs R L k) L (pg_tt R L k) = true ∧ ∀ j, j < pg_tt R L k → pg_fr (pg_rs R L k) L j = false :=
  pg_rs_pos hR hT (pg_rs_ne hR hT hk)
theorem pg_tt_rs (hR : ∀ a, R a = true → a < 60) (hT : ∀ a b c, L a b = true → L b c = true → L a c = true) {k : Nat} (hk : k < pg_tn R) : pg_rs R L k (pg_tt R L k) = true := (pg_B_t.mp (pg_tt_fr hR hT hk).1).1
theorem pg_tt_in (hR : ∀ a, R a = true → a < 60) (hT : ∀ a b c, L a b = true → L b c = true → L a c = true) {k : Nat} (hk : k < pg_tn R) : R (pg_tt R L k) = true := pg_rs_in (pg_tt_rs hR hT hk)
/-- a sum over the lines is a sum along the text -/
theorem pg_re_sum (hR : ∀ a, R a = true → a < 60) (hT : ∀ a b c, L a b = true → L b c = true → L a c = true) (f : Nat → Nat) : pg_sm (fun a => if R a = true then f a else 0) 60 = pg_sm (fun k => f (pg_tt R L k)) (pg_tn R) := by
  have key : ∀ k, k ≤ pg_tn R → pg_sm (fun a => if R a = true then f a else 0) 60 = pg_sm (fun k => f (pg_tt R L k)) k + pg_sm (fun a => if pg_rs R L k a = true then f a else 0) 60 := by
    intro k
    induction k with
    | zero => intro _; rw [pg_rs_0]; simp only [pg_sm]; omega
    | succ k ih =>
      intro hk
      have hin := pg_tt_rs hR hT (k := k) (by omega)
      have h := pg_sm_one (f := fun a => if pg_rs R L (k + 1) a = true then f a else 0) (g := fun a => if pg_rs R L k a = true then f a else 0) (j := pg_tt R L k) (n := 60) (pg_rs_lt hR hin) (fun i _ hi => by
        show (if pg_rs R L (k + 1) i = true then f i else 0) = (if pg_rs R L k i = true then f i else 0)
        rw [pg_rs_s, decide_eq_false hi, Bool.not_false, Bool.and_true]) (by
        show (if pg_rs R L (k + 1) (pg_tt R L k) = true then f (pg_tt R L k) else 0) = 0
        rw [pg_rs_s, decide_eq_true rfl, Bool.not_true, Bool.and_false]; rfl)
      rw [ih (by omega), h]
      show pg_sm _ k + (_ + (if pg_rs R L k (pg_tt R L k) = true then f (pg_tt R L k) else 0)) = pg_sm _ k + f (pg_tt R L k) + _
      rw [if_pos hin]
      omega
  have h := key _ (Nat.le_refl _)
  have z : pg_sm (fun a => if pg_rs R L (pg_tn R) a = true then f a else 0) 60 = 0 := by
    rw [pg_sm_ext (m := 0) (n := 60) (Nat.zero_le _) (fun i _ _ => by
      show (if pg_rs R L (pg_tn R) i = true then f i else 0) = 0
      rw [pg_rs_end hR hT i]; rfl)]
    rfl
  rw [h, z]
  omega
theorem pg_tt_inj (hR : ∀ a, R a = true → a < 60) (hT : ∀ a b c, L a b = true → L b c = true → L a c = true) {j k : Nat} (hj : j < k) (hk : k < pg_tn R) : pg_tt R L k ≠ pg_tt R L j := by
  intro e
  have key : ∀ d, pg_rs R L (j + 1 + d) (pg_tt R L j) = false := by
    intro d
    induction d with
    | zero => rw [Nat.add_zero, pg_rs_s, decide_eq_true rfl, Bool.not_true, Bool.and_false]
    | succ d ih => rw [← Nat.add_assoc, pg_rs_s, ih, Bool.false_and]
  have h := pg_tt_rs hR hT hk
  have h2 := key (k - (j + 1))
  rw [show j + 1 + (k - (j + 1)) = k from by omega, ← e, h] at h2
  exact absurd h2 (by decide)
/-- pairs of lines counted twice, against pairs along the text -/
theorem pg_pairs (hR : ∀ a, R a = true → a < 60) (hT : ∀ a b c, L a b = true → L b c = true → L a c = true) {q : Nat → Nat → Bool} (hs : ∀ a b, q a b = q b a) (h0 : ∀ a, q a a = false) :
    pg_sm (fun a => if R a = true then pg_cnt (fun b => R b && q a b) 60 else 0) 60 = 2 * pg_sm (fun i => pg_cnt (fun j => q (pg_tt R L i) (pg_tt R L j)) i) (pg_tn R) := by
  rw [pg_re_sum hR hT]
  have e : ∀ a, pg_cnt (fun b => R b && q a b) 60 = pg_sm (fun k => (q a (pg_tt R L k)).toNat) (pg_tn R) := by
    intro a
    rw [← pg_re_sum hR hT (fun b => (q a b).toNat)]
    refine pg_sm_c (fun i _ => ?_)
    show (R i && q a i).toNat = if R i = true then (q a i).toNat else 0
    cases R i <;> rfl
  rw [pg_sm_c (fun i _ => e (pg_tt R L i))]
  exact pg_sm_sym (g := fun i j => (q (pg_tt R L i) (pg_tt R L j)).toNat) (fun i j => by rw [hs]) (fun i => by rw [h0]; rfl) (pg_tn R)
end
end
section
/-! Warshall's rounds -/
def pg_wk (w : Nat → Nat → Bool) (k p c : Nat) : Bool := w p c || (w p k && w k c)
def pg_WA (E : Nat → Nat → Prop) (m k : Nat) (w : Nat → Nat → Bool) : Prop := (∀ p c, p < m → w p c = true → pg_cl E p c) ∧ (∀ p c, E p c → w p c = true) ∧ (∀ j, j < k → ∀ a, a < m → ∀ c, w a j = true → w j c = true → w a c = true)
theorem pg_wk_k (w : Nat → Nat → Bool) (k c : Nat) : pg_wk w k k c = w k c := by
  unfold pg_wk
  cases w k c <;> cases w k k <;> rfl
theorem pg_wk_c (w : Nat → Nat → Bool) (k a : Nat) : pg_wk w k a k = w a k := by
  unfold pg_wk
  cases w a k <;> cases w k k <;> rfl
theorem pg_WA_s {E : Nat → Nat → Prop} {m k : Nat} {w w' : Nat → Nat → Bool} (hE : ∀ x y, E x y → x < m ∧ y < m) (h : pg_WA E m k w) (hk : k < m) (hw : ∀ p, p < m → ∀ c, w' p c = pg_wk w k p c) : pg_WA E m (k + 1) w' := by
  obtain ⟨h1, h2, h3⟩ := h
  refine ⟨?_, ?_, ?_⟩
  · intro p c hp hc
    rw [hw p hp c] at hc
    unfold pg_wk at hc
    simp only [Bool.or_eq_true, Bool.and_eq_true] at hc
    rcases hc with hc | ⟨c1, c2⟩
    · exact h1 p c hp hc
    · exact pg_cl_t (h1 p k hp c1) (h1 k c hk c2)
  · intro p c e
    rw [hw p (hE p c e).1 c]
    unfold pg_wk
    rw [h2 p c e, Bool.true_or]
  · intro j hj a ha c haj hjc
    rw [hw a ha c]
    rw [hw a ha j] at haj
    rw [hw j (by omega) c] at hjc
    by_cases e : j = k
    · subst e
      rw [pg_wk_c] at haj
      rw [pg_wk_k] at hjc
      unfold pg_wk
      rw [haj, hjc]
      simp
    · have ih := h3 j (by omega)
      unfold pg_wk at haj hjc ⊢
      simp only [Bool.or_eq_true, Bool.and_eq_true] at haj hjc ⊢
      rcases haj with x | ⟨x1, x2⟩
      · rcases hjc with y | ⟨y1, y2⟩
        · exact Or.inl (ih a ha c x y)
        · exact Or.inr ⟨ih a ha k x y1, y2⟩
      · rcases hjc with y | ⟨y1, y2⟩
        · exact Or.inr ⟨x1, ih k hk c x2 y⟩
        · exact Or.inr ⟨x1, y2⟩
theorem pg_WA_e {E : Nat → Nat → Prop} {m : Nat} {w : Nat → Nat → Bool} (hE : ∀ x y, E x y → x < m ∧ y < m) (h : pg_WA E m m w) {p : Nat} (hp : p < m) (c : Nat) : w p c = pg_B (pg_cl E p c) := by
  obtain ⟨h1, h2, h3⟩ := h
  refine pg_beq ?_
  rw [pg_B_t]
  constructor
  · exact h1 p c hp
  · intro k
    exact (k (fun x y => x < m ∧ w x y = true) (fun x y e => ⟨(hE x y e).1, h2 x y e⟩) (fun x y z k1 k2 => ⟨k1.1, h3 y k2.1 x k1.1 z k1.2 k2.2⟩)).2
end
section
/-! values, the pictures of both sides -/
def pg_b : Bool → Int32
  | true => 1
  | false => 0
def pg_o : Option Nat → Int32
  | none => -1
  | some q => nI q
theorem pg_b_nar (b : Bool) : narrow .boolean (.int (pg_b b)) = .int (pg_b b) := by cases b <;> rfl
theorem pg_b_vn (b : Bool) : vp_nar .boolean (pg_b b) = pg_b b := by cases b <;> rfl
theorem pg_vn0 : vp_nar .boolean 0 = pg_b false := rfl
theorem pg_vn1 : vp_nar .boolean 1 = pg_b true := rfl
theorem pg_b_0 {b : Bool} : pg_b b = 0 ↔ b = false := by cases b <;> decide
/-- a branch on a boolean -/
theorem pg_br {b : Bool} {A B : Prop} (f : b = false → A) (t : b = true → B) : (pg_b b = 0 → A) ∧ (¬ pg_b b = 0 → B) := by
  cases b
  · exact ⟨fun _ => f rfl, fun h => absurd rfl h⟩
  · exact ⟨fun h => absurd h (by decide), fun _ => t rfl⟩
theorem pg_nm1 {q : Nat} (h : q < 2 ^ 31) : ¬ nI q = -1 := by
  intro e
  have h1 := nI_toInt h
  rw [e] at h1
  have h2 : (-1 : Int32).toInt = -1 := by decide
  omega
theorem pg_nm2 {q : Nat} (h : q < 2 ^ 31) : ¬ nI q = -2 := by
  intro e
  have h1 := nI_toInt h
  rw [e] at h1
  have h2 : (-2 : Int32).toInt = -2 := by decide
  omega
/-- a branch on an option -/
theorem pg_bo {o : Option Nat} {A B : Prop} (hb : ∀ q, o = some q → q < 2 ^ 31) (f : o = none → A) (t : ∀ q, o = some q → B) : (pg_o o = -1 → A) ∧ (¬ pg_o o = -1 → B) := by
  cases o with
  | none => exact ⟨fun _ => f rfl, fun h => absurd rfl h⟩
  | some q => exact ⟨fun h => absurd h (pg_nm1 (hb q rfl)), fun _ => t q rfl⟩
theorem pg_bo0 {o : Option Nat} {A B : Prop} (hb : ∀ q, o = some q → q < 2 ^ 31) (f : o = none → A) (t : ∀ q, o = some q → B) : (pg_o o < 0 → A) ∧ (¬ pg_o o < 0 → B) := by
  cases o with
  | none => exact ⟨fun _ => f rfl, fun h => absurd (by decide) h⟩
  | some q => exact ⟨fun h => absurd h (nI_pos (hb q rfl)), fun _ => t q rfl⟩
theorem pg_o_eq {o : Option Nat} {a : Nat} (hb : ∀ q, o = some q → q < 2 ^ 31) (ha : a < 2 ^ 31) : pg_o o = nI a ↔ o = some a := by
  cases o with
  | none => exact ⟨fun h => absurd h.symm (pg_nm1 ha), fun h => by cases h⟩
  | some q =>
    show nI q = nI a ↔ _
    rw [nI_eq (hb q rfl) ha]
    simp
theorem pg_ix (s a : Nat) : (60 * nI s) + nI a = nI (60 * s + a) := by
  rw [show (60 : Int32) = nI 60 from rfl, pk_mul, nI_add]
theorem pg_in180 {s a : Nat} (hs : s < 3) (ha : a < 60) : vp_in ((60 * nI s) + nI a) 180 := pk_in (60 * s + a) 180 (by omega) (pg_ix s a)
theorem pg_c180 {s a : Nat} (hs : s < 3) (ha : a < 60) : ((60 * nI s) + nI a).toNatClampNeg = 60 * s + a := pk_cl (60 * s + a) (pg_ix s a)
theorem pg_in3 {s : Nat} (hs : s < 3) : vp_in (nI s) 3 := vp_in_nI hs (by omega)
theorem pg_in60 {s : Nat} (hs : s < 60) : vp_in (nI s) 60 := vp_in_nI hs (by omega)
theorem pg_c {a : Nat} (ha : a < 180) : (nI a).toNatClampNeg = a := nI_clamp (by omega)
/-- the patches as X holds them -/
def pg_PX (m : Nat) (ins : Nat → Bool) (uu ll : Nat → Option Nat) (pi up lo : Nat → Int32) (ns : Nat → Int64) : Prop := ∀ p, p < m → pi p = pg_b (ins p) ∧ up p = pg_o (uu p) ∧ lo p = pg_o (ll p) ∧ ∀ q, pg_tb (ns p) q = pg_nd uu ll p q
/-- rows of a matrix kept in both directions, at 60 s + a -/
def pg_MX (M : Nat → Bool) (L : Nat → Nat → Bool) (s : Nat) (lt lf : Nat → Int64) : Prop := ∀ a, M a = true → ∀ c, pg_tb (lt (60 * s + a)) c = L a c ∧ pg_tb (lf (60 * s + a)) c = L c a
/-- a text, if it is written -/
def pg_TX (R : Nat → Bool) (L : Nat → Nat → Bool) (s : Nat) (iw tl tx : Nat → Int32) : Prop := iw s = 0 ∨ (tl s = nI (pg_tn R) ∧ ∀ k, k < pg_tn R → tx (60 * s + k) = nI (pg_tt R L k))
/-- a store as X holds it -/
def pg_SX (ins : Nat → Bool) (uu ll : Nat → Option Nat) (S : Nat → Bool) (s : Nat) (ps ss lt lf : Nat → Int64) (iw tl tx : Nat → Int32) : Prop := (∀ p, pg_tb (ps s) p = S p) ∧ (∀ a, pg_tb (ss s) a = pg_sk ins uu S a) ∧ pg_MX (fun a => S a && ins a) (pg_ld ins uu ll S) s lt lf ∧ pg_TX (pg_op ins uu S) (pg_ld ins uu ll S) s iw tl tx
def pg_RX (m : Nat) (ins : Nat → Bool) (uu ll : Nat → Option Nat) (st : Nat → Nat → Bool) (ct : Nat → Int32) (u : SX) : Prop := match u with
  | (fc, pi, up, lo, cx, ns, ps, ss, lt, lf, iw, tl, tx) => fc = nI m ∧ cx = ct ∧ pg_PX m ins uu ll pi up lo ns ∧ ∀ s, s < 3 → pg_SX ins uu ll (st s) s ps ss lt lf iw tl tx
def pg_lw (ins : Nat → Bool) (ll : Nat → Option Nat) (p : Nat) : Int32 := if ins p = true then pg_o (ll p) else -2
def pg_PY (m : Nat) (ins : Nat → Bool) (uu ll : Nat → Option Nat) (us ls : Nat → Int32) : Prop := ∀ p, p < m → us p = pg_o (uu p) ∧ ls p = pg_lw ins ll p
def pg_SY (m : Nat) (st : Nat → Nat → Bool) (se : Nat → Int32) : Prop := ∀ s, s < 3 → ∀ p, p < m → se (60 * s + p) = pg_b (st s p)
def pg_RY (m : Nat) (ins : Nat → Bool) (uu ll : Nat → Option Nat) (st : Nat → Nat → Bool) (ct : Nat → Int32) (v : SY) : Prop := match v with
  | (md, _, _, us, ls, cy, se, _, _, _, _, _) => md = nI m ∧ cy = ct ∧ pg_PY m ins uu ll us ls ∧ pg_SY m st se
def pg_WF (m : Nat) (ins : Nat → Bool) (uu ll : Nat → Option Nat) (st : Nat → Nat → Bool) : Prop := pg_WP m ins uu ll ∧ ∀ s, s < 3 → pg_CS m uu ll (st s)
def i_Rel (k : Nat) (u : SX) (v : SY) : Prop := ∃ (m : Nat) (ins : Nat → Bool) (uu ll : Nat → Option Nat) (st : Nat → Nat → Bool) (ct : Nat → Int32), pg_WF m ins uu ll st ∧ pg_RX m ins uu ll st ct u ∧ pg_RY m ins uu ll st ct v
theorem i_up {k : Nat} {u : SX} {v : SY} (h : i_Rel k u v) : i_Rel (k + 4) u v := h
theorem pg_up {k k' : Nat} {u : SX} {v : SY} (h : i_Rel k u v) : i_Rel k' u v := h
/-- arguments: a store's number or none -/
theorem pg_st (x : Int32) : (x < 0 ∨ ¬ x < 3) ∨ ∃ s, s < 3 ∧ x = nI s := by
  rcases pk_ix x (n := 3) (by omega) with h | h | h
  · exact Or.inl (Or.inl h)
  · exact Or.inl (Or.inr (Int32.not_lt.mpr h))
  · exact Or.inr h
end
section
/-! X: small methods -/
theorem pg_sb {x : Int32} (h : x < 0 ∨ ¬ x < 3) : ¬ x < 0 → 2 < x := by
  intro h0
  rcases h with h | h
  · exact absurd h h0
  · rw [Int32.lt_iff_toInt_lt] at h ⊢
    have e3 : (3 : Int32).toInt = 3 := by decide
    have e2 : (2 : Int32).toInt = 2 := by decide
    omega
theorem pg_pa {m : Nat} (hm : m ≤ 60) (x : Int32) : (x < 0 ∨ nI m ≤ x) ∨ ∃ p, p < m ∧ x = nI p := by
  rcases pk_ix x (n := m) (by omega) with h | h | h
  · exact Or.inl (Or.inl h)
  · exact Or.inl (Or.inr h)
  · exact Or.inr h
theorem xs_badT {post : Int32 → Prop} {u : SX} {x : Int32} (h : x < 0 ∨ ¬ x < 3) (k : post 1) : wpX_badStore post u x := by
  obtain ⟨fc, pi, up, lo, cx, ns, ps, ss, lt, lf, iw, tl, tx⟩ := u
  refine br_c (fun _ => k) (fun h0 => ?_)
  exact br_f (h.resolve_left h0) k
theorem xs_badF {post : Int32 → Prop} {u : SX} {s : Nat} (hs : s < 3) (k : post 0) : wpX_badStore post u (nI s) := by
  obtain ⟨fc, pi, up, lo, cx, ns, ps, ss, lt, lf, iw, tl, tx⟩ := u
  exact br_f (nI_pos (by omega)) (br_t (nI_lt (b := 3) hs (by omega)) k)
theorem xs_noPT {post : Int32 → Prop} {m : Nat} {pi up lo cx : Nat → Int32} {ns ps ss lt lf : Nat → Int64} {iw tl tx : Nat → Int32} {x : Int32} (h : x < 0 ∨ nI m ≤ x) (k : post 1) : wpX_noPatch post (nI m, pi, up, lo, cx, ns, ps, ss, lt, lf, iw, tl, tx) x := by
  refine br_c (fun _ => k) (fun h0 => ?_)
  exact br_f (Int32.not_lt.mpr (h.resolve_left h0)) k
theorem xs_noPF {post : Int32 → Prop} {m : Nat} {pi up lo cx : Nat → Int32} {ns ps ss lt lf : Nat → Int64} {iw tl tx : Nat → Int32} {p : Nat} (hm : m ≤ 60) (hp : p < m) (k : post 0) : wpX_noPatch post (nI m, pi, up, lo, cx, ns, ps, ss, lt, lf, iw, tl, tx) (nI p) :=
  br_f (nI_pos (by omega)) (br_t (nI_lt hp (by omega)) k)
theorem xs_hasBit {post : Int32 → Prop} {u : SX} {x : Int64} {p : Nat} (hp : p < 64) (k : post (pg_b (pg_tb x p))) : wpX_hasBit post u x (nI p) := by
  obtain ⟨fc, pi, up, lo, cx, ns, ps, ss, lt, lf, iw, tl, tx⟩ := u
  cases e : pg_tb x p with
  | true => rw [e] at k; exact br_t ((pg_has hp).mpr e) k
  | false => rw [e] at k; exact br_f (fun h => by rw [(pg_has hp).mp h] at e; cases e) k
theorem xs_bit {post : Int64 → Prop} {u : SX} {p : Nat} (hp : p < 64) (k : ∀ y, (∀ i, pg_tb y i = decide (i = p)) → post y) : wpX_bit post u (nI p) := by
  obtain ⟨fc, pi, up, lo, cx, ns, ps, ss, lt, lf, iw, tl, tx⟩ := u
  exact k _ (pg_tb_bit hp)
theorem xs_bitsOf_8 {post : Int32 → Prop} {fc : Int32} {pi up lo cx : Nat → Int32} {ns ps ss lt lf : Nat → Int64} {iw tl tx : Nat → Int32} {t : Nat} (ht : t ≤ 64) (k : post (nI t)) : ∀ (n i : Nat) (x : Int64), i + pg_cnt (pg_tb x) 64 = t → i ≤ 64 → t < i + n → wX_bitsOf_8 post fc pi up lo cx ns ps ss lt lf iw tl tx n (nI i) x (nI i) := by
  intro n
  induction n with
  | zero => intro i x h _ hn; omega
  | succ n ih =>
    intro i x h hi hn
    refine pk_le 64 i (fun h64 => ?_) (fun h64 => ?_)
    · have e : pg_cnt (pg_tb x) 64 = 0 := by omega
      have e2 : i = t := by omega
      rw [e2]; exact k
    · refine br_c (fun hz => ?_) (fun hz => ?_)
      · have e : pg_cnt (pg_tb x) 64 = 0 := by
          rw [hz]
          exact pg_cnt_ext (m := 0) (Nat.zero_le _) (fun j _ => pg_tb_0 j)
        have e2 : i = t := by omega
        rw [e2]; exact k
      · have e := pg_clear hz
        exact nm_e (nm_r (nI_1 i) (nm_r (nI_1 i) (ih (i + 1) _ (by omega) (by omega) (by omega))))
theorem xs_bitsOf {post : Int32 → Prop} {u : SX} {x : Int64} (k : post (nI (pg_cnt (pg_tb x) 64))) : wpX_bitsOf post u x := by
  obtain ⟨fc, pi, up, lo, cx, ns, ps, ss, lt, lf, iw, tl, tx⟩ := u
  exact ⟨65, xs_bitsOf_8 (pg_cnt_le _ 64) k 65 0 x (by omega) (by omega) (by have := pg_cnt_le (pg_tb x) 64; omega)⟩
end
section
/-! X: lines, texts -/
section
variable {m : Nat} {ins : Nat → Bool} {uu ll : Nat → Option Nat} {st : Nat → Nat → Bool} {ct : Nat → Int32} {pi up lo cx : Nat → Int32} {ns ps ss lt lf : Nat → Int64} {iw tl tx : Nat → Int32} {s : Nat}
theorem pg_MXr {M : Nat → Bool} {L : Nat → Nat → Bool} (h : pg_MX M L s lt lf) {a : Nat} (ha : M a = true) (c : Nat) : pg_tb (lt (60 * s + a)) c = L a c ∧ pg_tb (lf (60 * s + a)) c = L c a := h a ha c
theorem xs_isLine {post : Int32 → Prop} (hm : m ≤ 60) (hP : pg_PX m ins uu ll pi up lo ns) (hs : s < 3) (hp : ∀ p, pg_tb (ps s) p = st s p) {a : Nat} (ha : a < m) (k : post (pg_b (st s a && ins a))) : wpX_isLine post (nI m, pi, up, lo, cx, ns, ps, ss, lt, lf, iw, tl, tx) (nI s) (nI a) := by
  refine br_f (pg_nm1 (by omega)) (And.intro (pg_in3 hs) (xs_hasBit (by omega) ?_))
  rw [pg_c (by omega), hp a]
  refine pg_br (fun e => ?_) (fun e => And.intro (pg_in60 (by omega)) ?_)
  · rw [e] at k; exact k
  · rw [e, Bool.true_and] at k
    rw [pg_c (by omega), (hP a ha).1]
    refine pg_br (fun e2 => ?_) (fun e2 => ?_)
    · rw [e2] at k; exact k
    · rw [e2] at k; exact k
theorem xs_linesOf_5 {post : Int64 → Prop} (hm : m ≤ 60) (hP : pg_PX m ins uu ll pi up lo ns) (hs : s < 3) (hp : ∀ p, pg_tb (ps s) p = st s p) (hk : ∀ a, pg_tb (ss s) a = pg_sk ins uu (st s) a) (k : ∀ y, (∀ p, pg_tb y p = (decide (p < m) && pg_op ins uu (st s) p)) → post y) : ∀ (n i : Nat) (y : Int64), i ≤ m → m < n + i → (∀ p, pg_tb y p = (decide (p < i) && pg_op ins uu (st s) p)) → wX_linesOf_5 post (nI s) (nI m) pi up lo cx ns ps ss lt lf iw tl tx n y (nI i) := by
  intro n
  induction n with
  | zero => intro i y h1 h2; omega
  | succ n ih =>
    intro i y h1 h2 hy
    have step : ∀ p, p ≠ i → (decide (p < i + 1)) = decide (p < i) := fun p hp => by
      apply decide_eq_decide.mpr; omega
    refine pk_le m i (fun h => ?_) (fun h => ?_)
    · have e : i = m := by omega
      rw [e] at hy
      exact k y hy
    · refine xs_isLine hm hP hs hp h ?_
      refine pg_br (fun e => ?_) (fun e => ?_)
      · refine nm_r (nI_1 i) (ih (i + 1) y (by omega) (by omega) (fun p => ?_))
        rw [hy p]
        by_cases c : p = i
        · subst c
          unfold pg_op
          rw [e]; simp
        · rw [step p c]
      · refine And.intro (pg_in3 hs) (xs_hasBit (by omega) ?_)
        rw [pg_c (by omega), hk i]
        refine pg_br (fun e2 => ?_) (fun e2 => ?_)
        · refine xs_bit (by omega) (fun b hb => nm_e (nm_r (nI_1 i) (ih (i + 1) _ (by omega) (by omega) (fun p => ?_))))
          rw [pg_tb_or, hb p, hy p]
          by_cases c : p = i
          · subst c
            unfold pg_op
            rw [e, e2]; simp
          · rw [step p c, decide_eq_false c, Bool.or_false]
        · refine nm_r (nI_1 i) (ih (i + 1) y (by omega) (by omega) (fun p => ?_))
          rw [hy p]
          by_cases c : p = i
          · subst c
            unfold pg_op
            rw [e2]; simp
          · rw [step p c]
theorem xs_linesOf {post : Int64 → Prop} (hm : m ≤ 60) (hP : pg_PX m ins uu ll pi up lo ns) (hs : s < 3) (hp : ∀ p, pg_tb (ps s) p = st s p) (hk : ∀ a, pg_tb (ss s) a = pg_sk ins uu (st s) a) (hC : pg_CS m uu ll (st s)) (k : ∀ y, (∀ p, pg_tb y p = pg_op ins uu (st s) p) → post y) : wpX_linesOf post (nI m, pi, up, lo, cx, ns, ps, ss, lt, lf, iw, tl, tx) (nI s) := by
  refine ⟨m + 1, xs_linesOf_5 hm hP hs hp hk (fun y hy => k y (fun p => ?_)) (m + 1) 0 0 (by omega) (by omega) (fun p => ?_)⟩
  · rw [hy p]
    cases e : pg_op ins uu (st s) p with
    | false => rw [Bool.and_false]
    | true => rw [decide_eq_true (hC p (pg_op_in e).1).1]; rfl
  · rw [pg_tb_0, decide_eq_false (by omega), Bool.false_and]
/-- a is free, by bits -/
theorem pg_free {R : Nat → Bool} {L : Nat → Nat → Bool} {a : Nat} {f t y b : Int64} (hR : R a = true) (hf : ∀ c, pg_tb f c = L c a) (ht : ∀ c, pg_tb t c = L a c) (hy : ∀ c, pg_tb y c = R c) (hb : ∀ c, pg_tb b c = decide (c = a)) : ((f &&& (t ^^^ (-1))) &&& y) &&& (b ^^^ (-1)) = 0 ↔ pg_fr R L a = true := by
  rw [pg_tb_z]
  unfold pg_fr
  rw [pg_B_t]
  constructor
  · intro h
    refine ⟨hR, fun c h1 h2 h3 => ?_⟩
    have z := h c
    rw [pg_tb_andn, pg_tb_and, pg_tb_andn, hf, ht, hy, hb, h1, h3, decide_eq_false h2] at z
    simpa using z
  · rintro ⟨_, h⟩ c
    rw [pg_tb_andn, pg_tb_and, pg_tb_andn, hf, ht, hy, hb]
    by_cases c1 : c = a
    · rw [decide_eq_true c1]; simp
    · cases h1 : R c with
      | false => simp
      | true =>
        cases h3 : L c a with
        | false => simp
        | true => rw [h c h1 c1 h3]; simp
def pg_pd : Nat → Int32
  | 0 => -1
  | a + 1 => nI a
theorem pg_pd_s (a : Nat) : nI a - 1 = pg_pd a := by
  cases a with
  | zero => decide
  | succ a => exact nI_pred a
theorem pg_pd_m (a : Nat) : nI a + (-1) = pg_pd a := by
  cases a with
  | zero => decide
  | succ a => exact pk_m1 a
/-- X's search for the next line -/
theorem xs_write_46 {post : SX → Prop} {J : Int64 → Int32 → Int32 → (Nat → Int32) → (Nat → Int32) → (Nat → Int32) → (Nat → Int32) → (Nat → Int64) → (Nat → Int64) → (Nat → Int64) → (Nat → Int64) → (Nat → Int64) → (Nat → Int32) → (Nat → Int32) → (Nat → Int32) → Prop} {R : Nat → Bool} {L : Nat → Nat → Bool} {y : Int64} {k t : Nat} (hm : m ≤ 60) (hs : s < 3) (hk : k < 60) (hR : ∀ a, R a = true → a < m) (hM : ∀ a, R a = true → ∀ c, pg_tb (lt (60 * s + a)) c = L a c ∧ pg_tb (lf (60 * s + a)) c = L c a) (hy : ∀ a, pg_tb y a = R a) (ht : pg_fr R L t = true ∧ ∀ j, j < t → pg_fr R L j = false) (hJ : ∀ y', (∀ a, pg_tb y' a = (R a && !decide (a = t))) → J y' (nI (k + 1)) (nI (k + 1)) pi up lo cx ns ps ss lt lf iw tl (upd tx (60 * s + k) (nI t))) : ∀ (n a : Nat) (z : Int32), a < n → a ≤ m → ((∃ j, z = nI j ∧ pg_fr R L j = true ∧ ∀ i, a ≤ i → i < j → pg_fr R L i = false) ∨ (∀ i, a ≤ i → pg_fr R L i = false)) → wX_write_46 post J (nI s) y (nI k) (nI k) (nI m) pi up lo cx ns ps ss lt lf iw tl tx n z (pg_pd a) := by
  intro n
  induction n with
  | zero => intro a z h; omega
  | succ n ih =>
    intro a z ha ham hz
    cases a with
    | zero =>
      have e : z = nI t := by
        rcases hz with ⟨j, e, h1, h2⟩ | h
        · rw [e]
          rcases Nat.lt_trichotomy j t with c | c | c
          · rw [ht.2 j c] at h1; cases h1
          · rw [c]
          · rw [h2 t (by omega) c] at ht; cases ht.1
        · rw [h t (by omega)] at ht; cases ht.1
      subst e
      have htm : t < m := hR t (pg_B_t.mp ht.1).1
      refine br_t (by decide) (And.intro (pg_in180 hs hk) ?_)
      rw [pg_c180 hs hk]
      refine nm_e (nm_r (nI_1 k) (xs_bit (by omega) (fun b hb => nm_e (nm_r (nI_1 k) (hJ _ (fun a => ?_))))))
      rw [pg_tb_andn, hy, hb]
    | succ a =>
      have hsh : pg_fr R L a = false → ((∃ j, z = nI j ∧ pg_fr R L j = true ∧ ∀ i, a ≤ i → i < j → pg_fr R L i = false) ∨ (∀ i, a ≤ i → pg_fr R L i = false)) := by
        intro h0
        rcases hz with ⟨j, e, h1, h2⟩ | h
        · refine Or.inl ⟨j, e, h1, fun i i1 i2 => ?_⟩
          by_cases c : i = a
          · rw [c]; exact h0
          · exact h2 i (by omega) i2
        · refine Or.inr (fun i i1 => ?_)
          by_cases c : i = a
          · rw [c]; exact h0
          · exact h i (by omega)
      have hno : pg_fr R L a = false → wX_write_90 post J (wX_write_46 post J (nI s) y (nI k) (nI k) (nI m) pi up lo cx ns ps ss lt lf iw tl tx n) (nI s) y (nI k) (nI k) z (nI a) (nI m) pi up lo cx ns ps ss lt lf iw tl tx := by
        intro h0
        exact br_t rfl (nm_r (pg_pd_m a) (ih a z (by omega) (by omega) (hsh h0)))
      rw [show pg_pd (a + 1) = nI a from rfl]
      refine br_f (nI_pos (by omega)) (xs_hasBit (by omega) ?_)
      rw [hy a]
      refine pg_br (fun e => ?_) (fun e => ?_)
      · refine hno ?_
        rw [pg_fr, pg_B_f]
        intro h
        rw [e] at h
        cases h.1
      · refine And.intro (pg_in180 hs (by omega)) (And.intro (pg_in180 hs (by omega)) (xs_bit (by omega) (fun b hb => ?_)))
        rw [pg_c180 hs (by omega)]
        have hf := pg_free (R := R) (L := L) (a := a) (f := lf (60 * s + a)) (t := lt (60 * s + a)) (y := y) (b := b) e (fun c => (hM a e c).2) (fun c => (hM a e c).1) hy hb
        refine br_c (fun h => ?_) (fun h => ?_)
        · exact br_f (by decide) (nm_r (pg_pd_m a) (ih a (nI a) (by omega) (by omega) (Or.inl ⟨a, rfl, hf.mp h, fun i i1 i2 => by omega⟩)))
        · refine hno ?_
          cases c : pg_fr R L a with
          | false => rfl
          | true => exact absurd (hf.mpr c) h
end
/-- a text is written -/
def pg_wr (R : Nat → Bool) (L : Nat → Nat → Bool) (s : Nat) (tl tx : Nat → Int32) : Prop := tl s = nI (pg_tn R) ∧ ∀ k, k < pg_tn R → tx (60 * s + k) = nI (pg_tt R L k)
section
variable {m : Nat} {ins : Nat → Bool} {uu ll : Nat → Option Nat} {st : Nat → Nat → Bool} {ct : Nat → Int32} {pi up lo cx : Nat → Int32} {ns ps ss lt lf : Nat → Int64} {iw tl tx : Nat → Int32} {s : Nat}
theorem xs_write_22 {post : SX → Prop} {R : Nat → Bool} {L : Nat → Nat → Bool} (hm : m ≤ 60) (hs : s < 3) (hR : ∀ a, R a = true → a < m) (hT : ∀ a b c, L a b = true → L b c = true → L a c = true) (hM : ∀ a, R a = true → ∀ c, pg_tb (lt (60 * s + a)) c = L a c ∧ pg_tb (lf (60 * s + a)) c = L c a) (hp : ∀ tx', (∀ j, (j < 60 * s ∨ 60 * s + 60 ≤ j) → tx' j = tx j) → (∀ k, k < pg_tn R → tx' (60 * s + k) = nI (pg_tt R L k)) → post (nI m, pi, up, lo, cx, ns, ps, ss, lt, lf, upd iw s (pg_b true), upd tl s (nI (pg_tn R)), tx')) : ∀ (n k : Nat) (y : Int64) (tx' : Nat → Int32), k ≤ pg_tn R → pg_tn R < n + k → (∀ a, pg_tb y a = pg_rs R L k a) → (∀ j, (j < 60 * s ∨ 60 * s + 60 ≤ j) → tx' j = tx j) → (∀ j, j < k → tx' (60 * s + j) = nI (pg_tt R L j)) → wX_write_22 post (nI s) (nI m) n y (nI k) (nI k) pi up lo cx ns ps ss lt lf iw tl tx' := by
  have hR' : ∀ a, R a = true → a < 60 := fun a h => by have := hR a h; omega
  have hl := pg_tn_le (R := R)
  intro n
  induction n with
  | zero => intro k y tx' h1 h2; omega
  | succ n ih =>
    intro k y tx' h1 h2 hy hfr htx
    have fin : k = pg_tn R → wX_write_149 post (nI s) (nI k) (nI m) pi up lo cx ns ps ss lt lf iw tl tx' := by
      intro e
      refine And.intro (pg_in3 hs) ?_
      rw [pg_c (by omega)]
      refine nm_e (And.intro (pg_in3 hs) (nm_e ?_))
      rw [pg_vn1, e]
      rw [e] at htx
      exact hp tx' hfr htx
    refine pk_le 60 k (fun h => fin (by omega)) (fun h => ?_)
    refine br_c (fun hz => fin ?_) (fun hz => ?_)
    · rcases Nat.lt_or_ge k (pg_tn R) with c | c
      · obtain ⟨a, ha⟩ := pg_rs_ne hR' hT c
        rw [← hy a, hz, pg_tb_0] at ha
        cases ha
      · omega
    · have hk : k < pg_tn R := by
        rcases Nat.lt_or_ge k (pg_tn R) with c | c
        · exact c
        · exfalso
          apply hz
          rw [pg_tb_z]
          intro i
          rw [hy i, show k = pg_tn R from by omega]
          exact pg_rs_end hR' hT i
      refine nm_r (pg_pd_s m) ⟨m + 1, xs_write_46 (R := pg_rs R L k) (L := L) (t := pg_tt R L k) hm hs (by omega) (fun a ha => hR a (pg_rs_in ha)) (fun a ha => hM a (pg_rs_in ha)) hy (pg_tt_fr hR' hT hk) ?_ (m + 1) m (-1) (by omega) (by omega) (Or.inr (fun i hi => ?_))⟩
      · intro y' hy'
        refine ih (k + 1) y' _ (by omega) (by omega) (fun a => ?_) (fun j hj => ?_) (fun j hj => ?_)
        · rw [hy' a, pg_rs_s]
        · rw [pk_un (by omega)]
          exact hfr j hj
        · by_cases c : j = k
          · subst c
            rw [pk_us]
          · rw [pk_un (by omega)]
            exact htx j (by omega)
      · rw [pg_fr, pg_B_f]
        intro h
        have := hR i (pg_rs_in h.1)
        omega
/-- X's write -/
theorem xs_write {post : SX → Prop} (hW : pg_WF m ins uu ll st) (hX : pg_RX m ins uu ll st ct (nI m, pi, up, lo, cx, ns, ps, ss, lt, lf, iw, tl, tx)) (hs : s < 3) (k : ∀ iw' tl' tx', pg_RX m ins uu ll st ct (nI m, pi, up, lo, cx, ns, ps, ss, lt, lf, iw', tl', tx') → pg_wr (pg_op ins uu (st s)) (pg_ld ins uu ll (st s)) s tl' tx' → (∀ t, t < 3 → pg_wr (pg_op ins uu (st t)) (pg_ld ins uu ll (st t)) t tl tx → pg_wr (pg_op ins uu (st t)) (pg_ld ins uu ll (st t)) t tl' tx') → post (nI m, pi, up, lo, cx, ns, ps, ss, lt, lf, iw', tl', tx')) : wpX_write post (nI m, pi, up, lo, cx, ns, ps, ss, lt, lf, iw, tl, tx) (nI s) := by
  obtain ⟨_, hc, hP, hS⟩ := hX
  obtain ⟨hp, hk, hM, hT⟩ := hS s hs
  have hm := hW.1.1
  have hR : ∀ a, pg_op ins uu (st s) a = true → a < m := fun a h => (hW.2 s hs a (pg_op_in h).1).1
  refine And.intro (pg_in3 hs) ?_
  rw [pg_c (by omega)]
  refine br_c (fun h0 => ?_) (fun h0 => ?_)
  · refine xs_linesOf hm hP hs hp hk (hW.2 s hs) (fun y hy => ⟨61, ?_⟩)
    have hl := pg_tn_le (R := pg_op ins uu (st s))
    refine xs_write_22 (R := pg_op ins uu (st s)) (L := pg_ld ins uu ll (st s)) hm hs hR (fun a b c => pg_ld_t) (fun a ha c => hM a (by
      have := pg_op_in ha
      show (st s a && ins a) = true
      rw [this.1, this.2]; rfl) c) ?_ 61 0 y tx (by omega) (by omega) hy (fun _ _ => rfl) (fun j hj => by omega)
    intro tx' hfr htx
    have wr : pg_wr (pg_op ins uu (st s)) (pg_ld ins uu ll (st s)) s (upd tl s (nI (pg_tn (pg_op ins uu (st s))))) tx' := ⟨pk_us, htx⟩
    have keep : ∀ t, t < 3 → t ≠ s → ∀ k, k < 60 → tx' (60 * t + k) = tx (60 * t + k) := fun t ht hn k hk => hfr _ (by omega)
    refine k _ _ _ ⟨rfl, hc, hP, fun t ht => ?_⟩ wr (fun t ht hw => ?_)
    · obtain ⟨a1, a2, a3, a4⟩ := hS t ht
      refine ⟨a1, a2, a3, ?_⟩
      by_cases c : t = s
      · subst c
        exact Or.inr wr
      · rcases a4 with a4 | a4
        · left
          rw [pk_un c]; exact a4
        · right
          refine ⟨by rw [pk_un c]; exact a4.1, fun k hk => ?_⟩
          have := pg_tn_le (R := pg_op ins uu (st t))
          rw [keep t ht c k (by omega)]
          exact a4.2 k hk
    · by_cases c : t = s
      · subst c
        exact wr
      · refine ⟨by rw [pk_un c]; exact hw.1, fun k hk => ?_⟩
        have := pg_tn_le (R := pg_op ins uu (st t))
        rw [keep t ht c k (by omega)]
        exact hw.2 k hk
  · exact k iw tl tx ⟨rfl, hc, hP, hS⟩ (hT.resolve_left h0) (fun t _ h => h)
theorem xs_lineAtN {post : Int32 → Prop} {R : Nat → Bool} {L : Nat → Nat → Bool} {fc x : Int32} (hs : s < 3) (hw : pg_wr R L s tl tx) (h : x < 0 ∨ nI (pg_tn R) ≤ x) (k : post (-1)) : wpX_lineAt post (fc, pi, up, lo, cx, ns, ps, ss, lt, lf, iw, tl, tx) (nI s) x := by
  refine br_c (fun _ => k) (fun h0 => And.intro (pg_in3 hs) ?_)
  rw [pg_c (by omega), hw.1]
  exact br_f (Int32.not_lt.mpr (h.resolve_left h0)) k
theorem xs_lineAtS {post : Int32 → Prop} {R : Nat → Bool} {L : Nat → Nat → Bool} {fc : Int32} {j : Nat} (hs : s < 3) (hw : pg_wr R L s tl tx) (h : j < pg_tn R) (k : post (nI (pg_tt R L j))) : wpX_lineAt post (fc, pi, up, lo, cx, ns, ps, ss, lt, lf, iw, tl, tx) (nI s) (nI j) := by
  have hl := pg_tn_le (R := R)
  refine br_f (nI_pos (by omega)) (And.intro (pg_in3 hs) ?_)
  rw [pg_c (by omega), hw.1]
  refine br_t (nI_lt h (by omega)) (And.intro (pg_in180 hs (by omega)) ?_)
  rw [pg_c180 hs (by omega), hw.2 j h]
  exact k
end
end
section
/-! X: steps -/
def pg_ro (s : Nat) (A : Nat → Bool) (b : Int64) (i : Nat) (f : Nat → Int64) : Nat → Int64 := fun j => if 60 * s ≤ j ∧ j < 60 * s + i ∧ A (j - 60 * s) = true then f j ||| b else f j
theorem pg_ro_0 (s : Nat) (A : Nat → Bool) (b : Int64) (f : Nat → Int64) : pg_ro s A b 0 f = f := by
  funext j
  unfold pg_ro
  rw [if_neg (by omega)]
theorem pg_ro_t {s : Nat} {A : Nat → Bool} {b : Int64} {i : Nat} {f : Nat → Int64} (h : A i = true) : vp_updL (pg_ro s A b i f) (60 * s + i) (pg_ro s A b i f (60 * s + i) ||| b) = pg_ro s A b (i + 1) f := by
  funext j
  by_cases c : j = 60 * s + i
  · subst c
    rw [pk_uLs]
    unfold pg_ro
    rw [if_neg (by omega), if_pos ⟨by omega, by omega, by rw [Nat.add_sub_cancel_left]; exact h⟩]
  · rw [pk_uLn c]
    unfold pg_ro
    by_cases d : 60 * s ≤ j ∧ j < 60 * s + i ∧ A (j - 60 * s) = true
    · rw [if_pos d, if_pos ⟨d.1, by omega, d.2.2⟩]
    · rw [if_neg d, if_neg (fun e => d ⟨e.1, by omega, e.2.2⟩)]
theorem pg_ro_f {s : Nat} {A : Nat → Bool} {b : Int64} {i : Nat} {f : Nat → Int64} (h : A i = false) : pg_ro s A b i f = pg_ro s A b (i + 1) f := by
  funext j
  unfold pg_ro
  by_cases d : 60 * s ≤ j ∧ j < 60 * s + i ∧ A (j - 60 * s) = true
  · rw [if_pos d, if_pos ⟨d.1, by omega, d.2.2⟩]
  · rw [if_neg d, if_neg]
    rintro ⟨e1, e2, e3⟩
    by_cases c : j = 60 * s + i
    · subst c
      rw [Nat.add_sub_cancel_left, h] at e3
      cases e3
    · exact d ⟨e1, by omega, e3⟩
theorem pg_ro_at {s : Nat} {A : Nat → Bool} {b : Int64} {i : Nat} {f : Nat → Int64} {a : Nat} (h : a < i) (c : Nat) : pg_tb (pg_ro s A b i f (60 * s + a)) c = (pg_tb (f (60 * s + a)) c || (A a && pg_tb b c)) := by
  unfold pg_ro
  rw [Nat.add_sub_cancel_left]
  cases e : A a with
  | true => rw [if_pos ⟨by omega, by omega, rfl⟩, pg_tb_or, Bool.true_and]
  | false => rw [if_neg (fun z => by cases z.2.2), Bool.false_and, Bool.or_false]
theorem pg_ro_o {s : Nat} {A : Nat → Bool} {b : Int64} {i : Nat} {f : Nat → Int64} {j : Nat} (h : j < 60 * s ∨ 60 * s + i ≤ j) : pg_ro s A b i f j = f j := by
  unfold pg_ro
  rw [if_neg (by omega)]
section
variable {m : Nat} {ins : Nat → Bool} {uu ll : Nat → Option Nat} {st : Nat → Nat → Bool} {ct : Nat → Int32} {pi up lo cx : Nat → Int32} {ns ps ss lt lf : Nat → Int64} {iw tl tx : Nat → Int32} {s : Nat}
theorem xs_addStep_61 {post : SX → Prop} {bh ah : Int64} (hm : m ≤ 60) (hs : s < 3) (k : post (nI m, pi, up, lo, cx, ns, ps, ss, pg_ro s (pg_tb ah) bh m lt, pg_ro s (pg_tb bh) ah m lf, iw, tl, tx)) : ∀ (n i : Nat), i ≤ m → m < n + i → wX_addStep_61 post (nI s) bh ah (nI m) n (nI i) pi up lo cx ns ps ss (pg_ro s (pg_tb ah) bh i lt) (pg_ro s (pg_tb bh) ah i lf) iw tl tx := by
  intro n
  induction n with
  | zero => intro i h1 h2; omega
  | succ n ih =>
    intro i h1 h2
    refine pk_le m i (fun h => ?_) (fun h => ?_)
    · have e : i = m := by omega
      subst e
      exact k
    · have J : wX_addStep_108 post (wX_addStep_61 post (nI s) bh ah (nI m) n) (nI s) bh ah (nI i) (nI m) pi up lo cx ns ps ss (pg_ro s (pg_tb ah) bh (i + 1) lt) (pg_ro s (pg_tb bh) ah i lf) iw tl tx := by
        refine xs_hasBit (by omega) ?_
        refine pg_br (fun e => ?_) (fun e => And.intro (pg_in180 hs (by omega)) (And.intro (pg_in180 hs (by omega)) ?_))
        · rw [pg_ro_f (s := s) (b := ah) (f := lf) e]
          exact nm_r (nI_1 i) (ih (i + 1) (by omega) (by omega))
        · rw [pg_c180 hs (by omega)]
          exact nm_r (pg_ro_t e) (nm_r (nI_1 i) (ih (i + 1) (by omega) (by omega)))
      refine xs_hasBit (by omega) ?_
      refine pg_br (fun e => ?_) (fun e => And.intro (pg_in180 hs (by omega)) (And.intro (pg_in180 hs (by omega)) ?_))
      · rw [pg_ro_f (s := s) (b := bh) (f := lt) e]
        exact J
      · rw [pg_c180 hs (by omega)]
        exact nm_r (pg_ro_t e) J
theorem xs_addStep {post : SX → Prop} {M : Nat → Bool} {L : Nat → Nat → Bool} {f t : Nat} (hm : m ≤ 60) (hs : s < 3) (hMm : ∀ a, M a = true → a < m) (hT : ∀ a b c, L a b = true → L b c = true → L a c = true) (hM : pg_MX M L s lt lf) (hf : M f = true) (ht : M t = true) (k : ∀ lt' lf', pg_MX M (pg_stp L f t) s lt' lf' → (∀ j, (j < 60 * s ∨ 60 * s + 60 ≤ j) → lt' j = lt j ∧ lf' j = lf j) → post (nI m, pi, up, lo, cx, ns, ps, ss, lt', lf', iw, tl, tx)) : wpX_addStep post (nI m, pi, up, lo, cx, ns, ps, ss, lt, lf, iw, tl, tx) (nI s) (nI f) (nI t) := by
  have hfm := hMm f hf
  have htm := hMm t ht
  refine And.intro (pg_in180 hs (by omega)) (xs_bit (by omega) (fun b1 hb1 => nm_e (And.intro (pg_in180 hs (by omega)) (xs_bit (by omega) (fun b2 hb2 => nm_e (And.intro (pg_in180 hs (by omega)) (xs_hasBit (by omega) ?_)))))))
  rw [pg_c180 hs (by omega), pg_c180 hs (by omega), (hM f hf t).1]
  refine pg_br (fun e => ⟨m + 1, ?_⟩) (fun e => ?_)
  · have hz := xs_addStep_61 (pi := pi) (up := up) (lo := lo) (cx := cx) (ns := ns) (ps := ps) (ss := ss) (lt := lt) (lf := lf) (iw := iw) (tl := tl) (tx := tx) (bh := lt (60 * s + t) ||| b1) (ah := lf (60 * s + f) ||| b2) (post := post) hm hs ?_ (m + 1) 0 (by omega) (by omega)
    · rw [pg_ro_0, pg_ro_0] at hz
      exact hz
    · refine k _ _ (fun a ha c => ?_) (fun j hj => ⟨pg_ro_o (by omega), pg_ro_o (by omega)⟩)
      have ham := hMm a ha
      rw [pg_ro_at ham, pg_ro_at ham, pg_tb_or, pg_tb_or, pg_tb_or, pg_tb_or, hb1, hb2, hb1, hb2, (hM a ha c).1, (hM a ha c).2, (hM f hf a).2, (hM f hf c).2, (hM t ht a).1, (hM t ht c).1]
      refine ⟨rfl, ?_⟩
      unfold pg_stp
      rw [Bool.and_comm (x := L t a || decide (a = t))]
  · refine k lt lf (fun a ha c => ?_) (fun j _ => ⟨rfl, rfl⟩)
    rw [pg_stp_id hT e, pg_stp_id hT e]
    exact hM a ha c
end
/-- a store gets a patch -/
def pg_gv (st : Nat → Nat → Bool) (s p : Nat) : Nat → Nat → Bool := fun t => if t = s then pg_ad (st s) p else st t
theorem pg_gv_s (st : Nat → Nat → Bool) (s p : Nat) : pg_gv st s p s = pg_ad (st s) p := if_pos rfl
theorem pg_gv_n (st : Nat → Nat → Bool) {s t : Nat} (p : Nat) (h : t ≠ s) : pg_gv st s p t = st t := if_neg h
theorem pg_WF_gv {m : Nat} {ins : Nat → Bool} {uu ll : Nat → Option Nat} {st : Nat → Nat → Bool} {s p : Nat} (hW : pg_WF m ins uu ll st) (hs : s < 3) (hp : p < m) (hd : ∀ q, pg_D uu ll p q → st s q = true) : pg_WF m ins uu ll (pg_gv st s p) := by
  refine ⟨hW.1, fun t ht => ?_⟩
  by_cases c : t = s
  · subst c
    rw [pg_gv_s]
    exact pg_CS_ad (hW.2 t ht) hp hd
  · rw [pg_gv_n st p c]
    exact hW.2 t ht
theorem pg_SX_fr {ins : Nat → Bool} {uu ll : Nat → Option Nat} {S : Nat → Bool} {t : Nat} {ps ss lt lf ps' ss' lt' lf' : Nat → Int64} {iw tl tx iw' : Nat → Int32} (hC : ∀ a, S a = true → a < 60) (h : pg_SX ins uu ll S t ps ss lt lf iw tl tx) (e1 : ps' t = ps t) (e2 : ss' t = ss t) (e3 : ∀ a, a < 60 → lt' (60 * t + a) = lt (60 * t + a) ∧ lf' (60 * t + a) = lf (60 * t + a)) (e4 : iw' t = iw t) : pg_SX ins uu ll S t ps' ss' lt' lf' iw' tl tx := by
  obtain ⟨h1, h2, h3, h4⟩ := h
  refine ⟨fun p => by rw [e1]; exact h1 p, fun a => by rw [e2]; exact h2 a, fun a ha c => ?_, ?_⟩
  · have hS : S a = true := by
      have z : (S a && ins a) = true := ha
      rw [Bool.and_eq_true] at z
      exact z.1
    rw [(e3 a (hC a hS)).1, (e3 a (hC a hS)).2]
    exact h3 a ha c
  · unfold pg_TX
    rw [e4]
    exact h4
theorem pg_ld_adf {ins : Nat → Bool} {uu ll : Nat → Option Nat} {S : Nat → Bool} {p : Nat} (hi : ins p = false) : pg_ld ins uu ll (pg_ad S p) = pg_ld ins uu ll S := by
  funext a c
  refine pg_B_c (pg_cl_c (fun x y => ?_) a c)
  rw [pg_E_ad, hi]
  simp
section
variable {m : Nat} {ins : Nat → Bool} {uu ll : Nat → Option Nat} {st : Nat → Nat → Bool} {ct : Nat → Int32} {pi up lo cx : Nat → Int32} {ns ps ss lt lf : Nat → Int64} {iw tl tx : Nat → Int32} {s : Nat}
theorem xs_add_104 {post : SX → Prop} {M : Nat → Bool} {L : Nat → Nat → Bool} {p : Nat} {o : Option Nat} (hm : m ≤ 60) (hs : s < 3) (hMm : ∀ a, M a = true → a < m) (hT : ∀ a b c, L a b = true → L b c = true → L a c = true) (hM : pg_MX M L s lt lf) (hp : M p = true) (hl : lo p = pg_o o) (ht : ∀ t, o = some t → M t = true) (k0 : o = none → post (nI m, pi, up, lo, cx, ns, ps, ss, lt, lf, iw, tl, tx)) (k1 : ∀ t, o = some t → ∀ lt' lf', pg_MX M (pg_stp L p t) s lt' lf' → (∀ j, (j < 60 * s ∨ 60 * s + 60 ≤ j) → lt' j = lt j ∧ lf' j = lf j) → post (nI m, pi, up, lo, cx, ns, ps, ss, lt', lf', iw, tl, tx)) : wX_add_104 post (nI s) (nI p) (nI m) pi up lo cx ns ps ss lt lf iw tl tx := by
  have hpm := hMm p hp
  refine And.intro (pg_in60 (by omega)) ?_
  rw [pg_c (by omega), hl]
  refine pg_bo (fun q e => by have := hMm q (ht q e); omega) (fun e => k0 e) (fun t e => And.intro (pg_in60 (by omega)) ?_)
  subst e
  exact xs_addStep hm hs hMm hT hM hp (ht t rfl) (fun lt' lf' h1 h2 => k1 t rfl lt' lf' h1 h2)
theorem pg_stp_T {L : Nat → Nat → Bool} (hT : ∀ a b c, L a b = true → L b c = true → L a c = true) (f t : Nat) : ∀ a b c, pg_stp L f t a b = true → pg_stp L f t b c = true → pg_stp L f t a c = true := by
  have e : ∀ a c, L a c = pg_B (pg_cl (fun x y => L x y = true) a c) := by
    intro a c
    refine pg_beq ?_
    rw [pg_B_t]
    exact ⟨fun h => pg_cl_b h, fun h => h (fun x y => L x y = true) (fun _ _ h => h) hT⟩
  intro a b c h1 h2
  rw [pg_stp_cl (F := fun x y => L x y = true ∨ (x = f ∧ y = t)) e (fun _ _ => Iff.rfl), pg_B_t] at h1 h2 ⊢
  exact pg_cl_t h1 h2
/-- X's add -/
theorem xs_add {post : SX → Prop} {p : Nat} (hW : pg_WF m ins uu ll st) (hX : pg_RX m ins uu ll st ct (nI m, pi, up, lo, cx, ns, ps, ss, lt, lf, iw, tl, tx)) (hs : s < 3) (hp : p < m) (hn : st s p = false) (hd : ∀ q, pg_D uu ll p q → st s q = true) (k : ∀ ps' ss' lt' lf' iw', pg_RX m ins uu ll (pg_gv st s p) ct (nI m, pi, up, lo, cx, ns, ps', ss', lt', lf', iw', tl, tx) → post (nI m, pi, up, lo, cx, ns, ps', ss', lt', lf', iw', tl, tx)) : wpX_add post (nI m, pi, up, lo, cx, ns, ps, ss, lt, lf, iw, tl, tx) (nI s) (nI p) := by
  obtain ⟨_, hc, hP, hS⟩ := hX
  obtain ⟨s1, s2, s3, s4⟩ := hS s hs
  have hm := hW.1.1
  have hw := hW.1.2 p hp
  obtain ⟨p1, p2, p3, p4⟩ := hP p hp
  have hC60 : ∀ t, t < 3 → ∀ a, st t a = true → a < 60 := fun t ht a ha => by have := (hW.2 t ht a ha).1; omega
  have fin : ∀ (b : Int64) (ss' lt' lf' : Nat → Int64), (∀ i, pg_tb b i = decide (i = p)) → (∀ t, t < 3 → t ≠ s → ss' t = ss t) → (∀ a, pg_tb (ss' s) a = pg_sk ins uu (pg_ad (st s) p) a) → (∀ j, (j < 60 * s ∨ 60 * s + 60 ≤ j) → lt' j = lt j ∧ lf' j = lf j) → pg_MX (fun a => pg_ad (st s) p a && ins a) (pg_ld ins uu ll (pg_ad (st s) p)) s lt' lf' → post (nI m, pi, up, lo, cx, ns, vp_updL ps s (ps s ||| b), ss', lt', lf', upd iw s (pg_b false), tl, tx) := by
    intro b ss' lt' lf' hb h1 h2 h3 h4
    refine k _ _ _ _ _ ⟨rfl, hc, hP, fun t ht => ?_⟩
    by_cases c : t = s
    · subst c
      rw [pg_gv_s]
      refine ⟨fun q => ?_, h2, h4, Or.inl pk_us⟩
      rw [pk_uLs, pg_tb_or, s1, hb]
      rfl
    · rw [pg_gv_n st p c]
      exact pg_SX_fr (hC60 t ht) (hS t ht) (pk_uLn c) (h1 t ht c) (fun a ha => h3 _ (by omega)) (pk_un c)
  refine And.intro (pg_in3 hs) (xs_bit (by omega) (fun b hb => And.intro (pg_in3 hs) ?_))
  rw [pg_c (by omega), pg_c (by omega)]
  refine nm_e (And.intro (pg_in3 hs) (nm_r (e' := upd iw s (pg_b false)) rfl (And.intro (pg_in60 (by omega)) ?_)))
  rw [p1, p2]
  refine pg_br (fun e => And.intro (pg_in3 hs) (And.intro (pg_in60 (by omega)) ?_)) (fun e => And.intro (pg_in180 hs (by omega)) ?_)
  · obtain ⟨hl, q, hq⟩ := hw.2.2 e
    have hqp := (hw.1 q hq).1
    rw [hq]
    refine xs_bit (by omega) (fun b2 hb2 => And.intro (pg_in3 hs) (nm_e ?_))
    refine fin b _ lt lf hb (fun t _ c => pk_uLn c) (fun a => ?_) (fun j _ => ⟨rfl, rfl⟩) (fun a ha c => ?_)
    · rw [pk_uLs, pg_tb_or, s2, hb2, pg_sk_ad, e, hq]
      simp only [Bool.not_false, Bool.true_and, Option.some.injEq]
      congr 1
      exact decide_eq_decide.mpr ⟨fun z => z.symm, fun z => z.symm⟩
    · rw [pg_ld_adf e]
      refine s3 a ?_ c
      have z : (pg_ad (st s) p a && ins a) = true := ha
      rw [Bool.and_eq_true] at z
      have hne : a ≠ p := fun c => by rw [c, e] at z; cases z.2
      rw [pg_ad_n _ hne] at z
      show (st s a && ins a) = true
      rw [z.1, z.2]; rfl
  · rw [pg_c180 hs (by omega)]
    refine nm_e (And.intro (pg_in180 hs (by omega)) (nm_e (And.intro (pg_in60 (by omega)) ?_)))
    have hCad := pg_CS_ad (hW.2 s hs) hp hd
    have hMm : ∀ a, (fun a => pg_ad (st s) p a && ins a) a = true → a < m := fun a ha => by
      have z : (pg_ad (st s) p a && ins a) = true := ha
      rw [Bool.and_eq_true] at z
      exact (hCad a z.1).1
    have hMp : (fun a => pg_ad (st s) p a && ins a) p = true := by
      show (pg_ad (st s) p p && ins p) = true
      rw [pg_ad_s, e]; rfl
    have hMq : ∀ q, st s q = true → ins q = true → (fun a => pg_ad (st s) p a && ins a) q = true := fun q h1 h2 => by
      show (pg_ad (st s) p q && ins q) = true
      rw [pg_ad_t h1, h2]; rfl
    have hz : ∀ c, pg_ld ins uu ll (st s) p c = false ∧ pg_ld ins uu ll (st s) c p = false := fun c => by
      constructor
      · cases z : pg_ld ins uu ll (st s) p c with
        | false => rfl
        | true => have := (pg_ld_ends hW.1 (hW.2 s hs) z).1.1; rw [hn] at this; cases this
      · cases z : pg_ld ins uu ll (st s) c p with
        | false => rfl
        | true => have := (pg_ld_ends hW.1 (hW.2 s hs) z).2.1; rw [hn] at this; cases this
    have hM0 : pg_MX (fun a => pg_ad (st s) p a && ins a) (pg_ld ins uu ll (st s)) s (vp_updL lt (60 * s + p) 0) (vp_updL lf (60 * s + p) 0) := by
      intro a ha c
      by_cases ca : a = p
      · subst ca
        rw [pk_uLs, pk_uLs, pg_tb_0, (hz c).1, (hz c).2]
        exact ⟨rfl, rfl⟩
      · rw [pk_uLn (by omega), pk_uLn (by omega)]
        refine s3 a ?_ c
        have z : (pg_ad (st s) p a && ins a) = true := ha
        rw [Bool.and_eq_true, pg_ad_n _ ca] at z
        show (st s a && ins a) = true
        rw [z.1, z.2]; rfl
    have hfr0 : ∀ j, (j < 60 * s ∨ 60 * s + 60 ≤ j) → vp_updL lt (60 * s + p) 0 j = lt j ∧ vp_updL lf (60 * s + p) 0 j = lf j := fun j hj => ⟨pk_uLn (by omega), pk_uLn (by omega)⟩
    have hTS : ∀ a b c, pg_ld ins uu ll (st s) a b = true → pg_ld ins uu ll (st s) b c = true → pg_ld ins uu ll (st s) a c = true := fun a b c => pg_ld_t
    have hss : ∀ a, pg_tb (ss s) a = pg_sk ins uu (pg_ad (st s) p) a := fun a => by
      rw [s2, pg_sk_ad, e]; simp
    obtain ⟨L0, L1, L2, L3⟩ := pg_ld_ad (ins := ins) (uu := uu) (ll := ll) (S := st s) (p := p) e
    have hlow : ∀ t, ll p = some t → (fun a => pg_ad (st s) p a && ins a) t = true := fun t h => hMq t (hd t (Or.inr h)) (hw.2.1 t h).2
    refine pg_bo (fun q z => by have := (hw.1 q z).1; omega) (fun eu => ?_) (fun f eu => And.intro (pg_in60 (by omega)) ?_)
    · refine xs_add_104 hm hs hMm hTS hM0 hMp p3 hlow (fun el => ?_) (fun t el lt' lf' h1 h2 => ?_)
      · refine fin b ss _ _ hb (fun _ _ _ => rfl) hss hfr0 (fun a ha c => ?_)
        rw [L0 eu el, L0 eu el]
        exact hM0 a ha c
      · refine fin b ss _ _ hb (fun _ _ _ => rfl) hss (fun j hj => ⟨(h2 j hj).1.trans (hfr0 j hj).1, (h2 j hj).2.trans (hfr0 j hj).2⟩) (fun a ha c => ?_)
        rw [L2 t eu el, L2 t eu el]
        exact h1 a ha c
    · rw [eu]
      refine xs_addStep (L := pg_ld ins uu ll (st s)) hm hs hMm hTS hM0 (hMq f (hd f (Or.inl eu)) (hw.1 f eu).2) hMp (fun lt1 lf1 g1 g2 => ?_)
      refine xs_add_104 hm hs hMm (pg_stp_T hTS f p) g1 hMp p3 hlow (fun el => ?_) (fun t el lt' lf' h1 h2 => ?_)
      · refine fin b ss _ _ hb (fun _ _ _ => rfl) hss (fun j hj => ⟨(g2 j hj).1.trans (hfr0 j hj).1, (g2 j hj).2.trans (hfr0 j hj).2⟩) (fun a ha c => ?_)
        rw [L1 f eu el, L1 f eu el]
        exact g1 a ha c
      · refine fin b ss _ _ hb (fun _ _ _ => rfl) hss (fun j hj => ⟨((h2 j hj).1.trans (g2 j hj).1).trans (hfr0 j hj).1, ((h2 j hj).2.trans (g2 j hj).2).trans (hfr0 j hj).2⟩) (fun a ha c => ?_)
        rw [L3 f t eu el, L3 f t eu el]
        exact h1 a ha c
end
end
section
/-! X: sets of patches -/
/-- store s with the patches of Y below i -/
def pg_mg (st : Nat → Nat → Bool) (s : Nat) (Y : Nat → Bool) (i : Nat) : Nat → Nat → Bool := fun t q => if t = s then (st s q || (decide (q < i) && Y q)) else st t q
def pg_un (st : Nat → Nat → Bool) (s : Nat) (Y : Nat → Bool) : Nat → Nat → Bool := fun t q => if t = s then (st s q || Y q) else st t q
theorem pg_mg_s (st : Nat → Nat → Bool) (s : Nat) (Y : Nat → Bool) (i q : Nat) : pg_mg st s Y i s q = (st s q || (decide (q < i) && Y q)) := if_pos rfl
theorem pg_mg_n {st : Nat → Nat → Bool} {s t : Nat} {Y : Nat → Bool} {i : Nat} (h : t ≠ s) : pg_mg st s Y i t = st t := funext fun _ => if_neg h
theorem pg_mg_0 (st : Nat → Nat → Bool) (s : Nat) (Y : Nat → Bool) : pg_mg st s Y 0 = st := by
  funext t q
  by_cases c : t = s
  · subst c
    rw [pg_mg_s, decide_eq_false (by omega), Bool.false_and, Bool.or_false]
  · rw [pg_mg_n c]
theorem pg_mg_m {st : Nat → Nat → Bool} {s : Nat} {Y : Nat → Bool} {m : Nat} (h : ∀ q, Y q = true → q < m) : pg_mg st s Y m = pg_un st s Y := by
  funext t q
  unfold pg_mg pg_un
  cases e : Y q with
  | false => rw [Bool.and_false]
  | true => rw [decide_eq_true (h q e), Bool.true_and]
theorem pg_mg_k {st : Nat → Nat → Bool} {s : Nat} {Y : Nat → Bool} {i : Nat} (h : Y i = false ∨ st s i = true) : pg_mg st s Y (i + 1) = pg_mg st s Y i := by
  funext t q
  unfold pg_mg
  by_cases c : t = s
  · rw [if_pos c, if_pos c]
    by_cases d : q = i
    · subst d
      rcases h with h | h
      · rw [h, Bool.and_false, Bool.and_false]
      · rw [h, Bool.true_or, Bool.true_or]
    · rw [decide_eq_decide.mpr (show q < i + 1 ↔ q < i by omega)]
  · rw [if_neg c, if_neg c]
theorem pg_mg_a {st : Nat → Nat → Bool} {s : Nat} {Y : Nat → Bool} {i : Nat} (h : Y i = true) : pg_gv (pg_mg st s Y i) s i = pg_mg st s Y (i + 1) := by
  funext t q
  by_cases c : t = s
  · subst c
    rw [pg_gv_s, pg_mg_s]
    unfold pg_ad
    rw [pg_mg_s]
    by_cases d : q = i
    · subst d
      rw [h, decide_eq_true rfl, decide_eq_true (Nat.lt_succ_self q)]
      simp
    · rw [decide_eq_decide.mpr (show q < i + 1 ↔ q < i by omega), decide_eq_false d, Bool.or_false]
  · rw [pg_gv_n _ _ c, pg_mg_n c, pg_mg_n c]
theorem pg_WF_mg {m : Nat} {ins : Nat → Bool} {uu ll : Nat → Option Nat} {st : Nat → Nat → Bool} {s : Nat} {Y : Nat → Bool} (hW : pg_WF m ins uu ll st) (hs : s < 3) (hY : pg_CS m uu ll Y) (i : Nat) : pg_WF m ins uu ll (pg_mg st s Y i) := by
  refine ⟨hW.1, fun t ht => ?_⟩
  by_cases c : t = s
  · subst c
    intro p hp
    rw [pg_mg_s, Bool.or_eq_true, Bool.and_eq_true, decide_eq_true_eq] at hp
    rcases hp with hp | ⟨h1, h2⟩
    · have z := hW.2 t ht p hp
      exact ⟨z.1, fun q hq => by rw [pg_mg_s, z.2 q hq, Bool.true_or]⟩
    · have z := hY p h2
      refine ⟨z.1, fun q hq => ?_⟩
      have hl := pg_D_lt hW.1 z.1 hq
      rw [pg_mg_s, z.2 q hq, decide_eq_true (by omega)]
      simp
  · rw [pg_mg_n c]
    exact hW.2 t ht
theorem pg_WF_un {m : Nat} {ins : Nat → Bool} {uu ll : Nat → Option Nat} {st : Nat → Nat → Bool} {s : Nat} {Y : Nat → Bool} (hW : pg_WF m ins uu ll st) (hs : s < 3) (hY : pg_CS m uu ll Y) : pg_WF m ins uu ll (pg_un st s Y) := by
  rw [← pg_mg_m (m := m) (fun q h => (hY q h).1)]
  exact pg_WF_mg hW hs hY m
section
variable {m : Nat} {ins : Nat → Bool} {uu ll : Nat → Option Nat} {st : Nat → Nat → Bool} {ct : Nat → Int32} {pi up lo cx : Nat → Int32} {iw tl tx : Nat → Int32} {ns : Nat → Int64} {s : Nat}
theorem xs_addAll_6 {post : Int32 → SX → Prop} {y : Int64} {Y : Nat → Bool} (hW : pg_WF m ins uu ll st) (hs : s < 3) (hY : pg_CS m uu ll Y) (hy : ∀ q, pg_tb y q = Y q) (k : ∀ ps ss lt lf iw, pg_RX m ins uu ll (pg_un st s Y) ct (nI m, pi, up, lo, cx, ns, ps, ss, lt, lf, iw, tl, tx) → post (nI (pg_cnt (fun q => Y q && !st s q) m)) (nI m, pi, up, lo, cx, ns, ps, ss, lt, lf, iw, tl, tx)) : ∀ (n i : Nat) (ps ss lt lf : Nat → Int64) (iw : Nat → Int32), i ≤ m → m < n + i → pg_RX m ins uu ll (pg_mg st s Y i) ct (nI m, pi, up, lo, cx, ns, ps, ss, lt, lf, iw, tl, tx) → wX_addAll_6 post (nI s) y n (nI (pg_cnt (fun q => Y q && !st s q) i)) (nI i) (nI m) pi up lo cx ns ps ss lt lf iw tl tx := by
  have hm := hW.1.1
  intro n
  induction n with
  | zero => intro i ps ss lt lf iw h1 h2; omega
  | succ n ih =>
    intro i ps ss lt lf iw h1 h2 hX
    refine pk_le m i (fun h => ?_) (fun h => ?_)
    · have e : i = m := by omega
      subst e
      rw [pg_mg_m (fun q h => (hY q h).1)] at hX
      exact k ps ss lt lf iw hX
    · refine xs_hasBit (by omega) ?_
      rw [hy i]
      refine pg_br (fun e => ?_) (fun e => And.intro (pg_in3 hs) (xs_hasBit (by omega) ?_))
      · have ez : (fun q => Y q && !st s q) i = false := by show (Y i && !st s i) = false; rw [e]; rfl
        rw [← pg_cnt_f ez]
        rw [← pg_mg_k (Or.inl e)] at hX
        exact nm_r (nI_1 i) (ih (i + 1) ps ss lt lf iw (by omega) (by omega) hX)
      · have es : pg_tb (ps s) i = st s i := by
          have z := (hX.2.2.2 s hs).1 i
          rw [pg_mg_s, decide_eq_false (by omega), Bool.false_and, Bool.or_false] at z
          exact z
        rw [pg_c (by omega), es]
        refine pg_br (fun e2 => ?_) (fun e2 => ?_)
        · have ez : (fun q => Y q && !st s q) i = true := by show (Y i && !st s i) = true; rw [e, e2]; rfl
          have hWi := pg_WF_mg hW hs hY i
          refine xs_add hWi hX hs h (by rw [pg_mg_s, e2, decide_eq_false (by omega), Bool.false_and]; rfl) (fun q hq => ?_) (fun ps' ss' lt' lf' iw' hX' => ?_)
          · have hl := pg_D_lt hW.1 h hq
            rw [pg_mg_s, (hY i e).2 q hq, decide_eq_true hl]
            simp
          · rw [pg_mg_a e] at hX'
            have z := ih (i + 1) ps' ss' lt' lf' iw' (by omega) (by omega) hX'
            rw [pg_cnt_t ez] at z
            exact nm_r (nI_1 _) (nm_r (nI_1 i) z)
        · have ez : (fun q => Y q && !st s q) i = false := by show (Y i && !st s i) = false; rw [e2]; simp
          rw [← pg_cnt_f ez]
          rw [← pg_mg_k (Or.inr e2)] at hX
          exact nm_r (nI_1 i) (ih (i + 1) ps ss lt lf iw (by omega) (by omega) hX)
theorem xs_addAll {post : Int32 → SX → Prop} {y : Int64} {Y : Nat → Bool} {ps ss lt lf : Nat → Int64} (hW : pg_WF m ins uu ll st) (hX : pg_RX m ins uu ll st ct (nI m, pi, up, lo, cx, ns, ps, ss, lt, lf, iw, tl, tx)) (hs : s < 3) (hY : pg_CS m uu ll Y) (hy : ∀ q, pg_tb y q = Y q) (k : ∀ ps ss lt lf iw, pg_RX m ins uu ll (pg_un st s Y) ct (nI m, pi, up, lo, cx, ns, ps, ss, lt, lf, iw, tl, tx) → post (nI (pg_cnt (fun q => Y q && !st s q) m)) (nI m, pi, up, lo, cx, ns, ps, ss, lt, lf, iw, tl, tx)) : wpX_addAll post (nI m, pi, up, lo, cx, ns, ps, ss, lt, lf, iw, tl, tx) (nI s) y := by
  refine ⟨m + 1, xs_addAll_6 (st := st) (Y := Y) hW hs hY hy k (m + 1) 0 ps ss lt lf iw (by omega) (by omega) ?_⟩
  rw [pg_mg_0]
  exact hX
/-- a store made anew -/
def pg_rn (st : Nat → Nat → Bool) (s : Nat) (Y : Nat → Bool) : Nat → Nat → Bool := fun t => if t = s then Y else st t
theorem pg_rn_s (st : Nat → Nat → Bool) (s : Nat) (Y : Nat → Bool) : pg_rn st s Y s = Y := if_pos rfl
theorem pg_rn_n {st : Nat → Nat → Bool} {s t : Nat} {Y : Nat → Bool} (h : t ≠ s) : pg_rn st s Y t = st t := if_neg h
theorem pg_WF_rn {Y : Nat → Bool} (hW : pg_WF m ins uu ll st) (hY : pg_CS m uu ll Y) : pg_WF m ins uu ll (pg_rn st s Y) := by
  refine ⟨hW.1, fun t ht => ?_⟩
  by_cases c : t = s
  · subst c
    rw [pg_rn_s]
    exact hY
  · rw [pg_rn_n c]
    exact hW.2 t ht
theorem pg_un_rn (st : Nat → Nat → Bool) (s : Nat) (Y : Nat → Bool) : pg_un (pg_rn st s (fun _ => false)) s Y = pg_rn st s Y := by
  funext t q
  unfold pg_un
  by_cases c : t = s
  · subst c
    rw [if_pos rfl, pg_rn_s, pg_rn_s, Bool.false_or]
  · rw [if_neg c, pg_rn_n c, pg_rn_n c]
theorem xs_rebuild {post : SX → Prop} {y : Int64} {Y : Nat → Bool} {ps ss lt lf : Nat → Int64} (hW : pg_WF m ins uu ll st) (hX : pg_RX m ins uu ll st ct (nI m, pi, up, lo, cx, ns, ps, ss, lt, lf, iw, tl, tx)) (hs : s < 3) (hY : pg_CS m uu ll Y) (hy : ∀ q, pg_tb y q = Y q) (k : ∀ ps ss lt lf iw, pg_RX m ins uu ll (pg_rn st s Y) ct (nI m, pi, up, lo, cx, ns, ps, ss, lt, lf, iw, tl, tx) → post (nI m, pi, up, lo, cx, ns, ps, ss, lt, lf, iw, tl, tx)) : wpX_rebuild post (nI m, pi, up, lo, cx, ns, ps, ss, lt, lf, iw, tl, tx) (nI s) y := by
  obtain ⟨_, hc, hP, hS⟩ := hX
  refine And.intro (pg_in3 hs) ?_
  rw [pg_c (by omega)]
  refine nm_e (And.intro (pg_in3 hs) (nm_e (And.intro (pg_in3 hs) (nm_r (e' := upd iw s (pg_b false)) rfl ?_))))
  have hC0 : pg_CS m uu ll (fun _ => false) := fun p hp => by cases hp
  refine xs_addAll (st := pg_rn st s (fun _ => false)) (Y := Y) (ct := ct) (pg_WF_rn hW hC0) ⟨rfl, hc, hP, fun t ht => ?_⟩ hs hY hy (fun ps ss lt lf iw h => ?_)
  · by_cases c : t = s
    · subst c
      rw [pg_rn_s]
      refine ⟨fun p => by rw [pk_uLs, pg_tb_0], fun a => ?_, fun a ha => ?_, Or.inl pk_us⟩
      · rw [pk_uLs, pg_tb_0]
        symm
        rw [pg_sk, pg_B_f]
        rintro ⟨p, h, _⟩
        cases h
      · cases ha
    · rw [pg_rn_n c]
      exact pg_SX_fr (fun a ha => by have := (hW.2 t ht a ha).1; have := hW.1.1; omega) (hS t ht) (pk_uLn c) (pk_uLn c) (fun _ _ => ⟨rfl, rfl⟩) (pk_un c)
  · rw [pg_un_rn] at h
    exact k ps ss lt lf iw h
end
/-- a patch, if there is one, with its needs -/
noncomputable def pg_wn (uu ll : Nat → Option Nat) : Option Nat → Nat → Bool
  | none, _ => false
  | some a, q => pg_nd uu ll a q || decide (q = a)
theorem pg_CS_wn {m : Nat} {ins : Nat → Bool} {uu ll : Nat → Option Nat} (hW : pg_WP m ins uu ll) {a : Nat} (ha : a < m) : pg_CS m uu ll (pg_wn uu ll (some a)) := by
  intro p hp
  have z : (pg_nd uu ll a p || decide (p = a)) = true := hp
  rw [Bool.or_eq_true, decide_eq_true_eq] at z
  have hl : p < m := by
    rcases z with z | z
    · have := pg_nd_lt hW ha z; omega
    · omega
  refine ⟨hl, fun q hq => ?_⟩
  show (pg_nd uu ll a q || decide (q = a)) = true
  rw [Bool.or_eq_true]
  left
  rcases z with z | z
  · exact pg_B_t.mpr (pg_cl_t (pg_B_t.mp z) (pg_cl_b hq))
  · subst z
    exact pg_B_t.mpr (pg_cl_b hq)
section
variable {m : Nat} {ins : Nat → Bool} {uu ll : Nat → Option Nat} {st : Nat → Nat → Bool} {ct : Nat → Int32} {pi up lo cx : Nat → Int32} {iw tl tx : Nat → Int32} {ns ps ss lt lf : Nat → Int64} {s : Nat}
theorem xs_withNeeds {post : Int64 → Prop} {fc : Int32} {o : Option Nat} (hm : m ≤ 60) (hN : ∀ p, p < m → ∀ q, pg_tb (ns p) q = pg_nd uu ll p q) (ho : ∀ q, o = some q → q < m) (k : ∀ y, (∀ q, pg_tb y q = pg_wn uu ll o q) → post y) : wpX_withNeeds post (fc, pi, up, lo, cx, ns, ps, ss, lt, lf, iw, tl, tx) (pg_o o) := by
  refine pg_bo (fun q e => by have := ho q e; omega) (fun e => ?_) (fun q e => ?_)
  · subst e
    exact k 0 (fun q => pg_tb_0 q)
  · subst e
    have hq := ho q rfl
    refine And.intro (pg_in60 (by omega)) (xs_bit (by omega) (fun b hb => ?_))
    refine k _ (fun r => ?_)
    rw [show pg_o (some q) = nI q from rfl, pg_c (by omega), pg_tb_or, hN q hq r, hb r]
    rfl
/-- all that the patches of a store need -/
noncomputable def pg_ne (uu ll : Nat → Option Nat) (S : Nat → Bool) (q : Nat) : Bool := pg_B (∃ p, S p = true ∧ pg_nd uu ll p q = true)
theorem xs_neededIn_5 {post : Int64 → Prop} (hW : pg_WF m ins uu ll st) (hP : pg_PX m ins uu ll pi up lo ns) (hs : s < 3) (hp : ∀ p, pg_tb (ps s) p = st s p) (k : ∀ y, (∀ q, pg_tb y q = pg_ne uu ll (st s) q) → post y) : ∀ (n i : Nat) (y : Int64), i ≤ m → m < n + i → (∀ q, pg_tb y q = pg_B (∃ p, p < i ∧ st s p = true ∧ pg_nd uu ll p q = true)) → wX_neededIn_5 post (nI s) (nI m) pi up lo cx ns ps ss lt lf iw tl tx n y (nI i) := by
  have hm := hW.1.1
  intro n
  induction n with
  | zero => intro i y h1 h2; omega
  | succ n ih =>
    intro i y h1 h2 hy
    refine pk_le m i (fun h => ?_) (fun h => And.intro (pg_in3 hs) (xs_hasBit (by omega) ?_))
    · refine k y (fun q => ?_)
      rw [hy q]
      refine pg_B_c ⟨fun ⟨p, h1, h2, h3⟩ => ⟨p, h2, h3⟩, fun ⟨p, h2, h3⟩ => ⟨p, ?_, h2, h3⟩⟩
      have := (hW.2 s hs p h2).1
      omega
    · rw [pg_c (by omega), hp i]
      refine pg_br (fun e => ?_) (fun e => And.intro (pg_in60 (by omega)) ?_)
      · refine nm_r (nI_1 i) (ih (i + 1) y (by omega) (by omega) (fun q => ?_))
        rw [hy q]
        refine pg_B_c ⟨fun ⟨p, h1, h2, h3⟩ => ⟨p, by omega, h2, h3⟩, fun ⟨p, h1, h2, h3⟩ => ⟨p, ?_, h2, h3⟩⟩
        rcases Nat.lt_or_ge p i with c | c
        · exact c
        · have e2 : p = i := by omega
          rw [e2, e] at h2
          cases h2
      · rw [pg_c (by omega)]
        refine nm_e (nm_r (nI_1 i) (ih (i + 1) _ (by omega) (by omega) (fun q => ?_)))
        rw [pg_tb_or, hy q, (hP i h).2.2.2 q]
        refine pg_beq ?_
        rw [Bool.or_eq_true, pg_B_t, pg_B_t]
        constructor
        · rintro (⟨p, h1, h2, h3⟩ | h3)
          · exact ⟨p, by omega, h2, h3⟩
          · exact ⟨i, by omega, e, h3⟩
        · rintro ⟨p, h1, h2, h3⟩
          by_cases c : p = i
          · subst c
            exact Or.inr h3
          · exact Or.inl ⟨p, by omega, h2, h3⟩
theorem xs_neededIn {post : Int64 → Prop} (hW : pg_WF m ins uu ll st) (hP : pg_PX m ins uu ll pi up lo ns) (hs : s < 3) (hp : ∀ p, pg_tb (ps s) p = st s p) (k : ∀ y, (∀ q, pg_tb y q = pg_ne uu ll (st s) q) → post y) : wpX_neededIn post (nI m, pi, up, lo, cx, ns, ps, ss, lt, lf, iw, tl, tx) (nI s) := by
  refine ⟨m + 1, xs_neededIn_5 hW hP hs hp k (m + 1) 0 0 (by omega) (by omega) (fun q => ?_)⟩
  rw [pg_tb_0]
  symm
  rw [pg_B_f]
  rintro ⟨p, h, _⟩
  omega
end
end
section
/-! a new patch -/
def pg_fu {α : Type} (f : Nat → α) (m : Nat) (x : α) : Nat → α := fun p => if p = m then x else f p
theorem pg_fu_s {α : Type} (f : Nat → α) (m : Nat) (x : α) : pg_fu f m x m = x := if_pos rfl
theorem pg_fu_n {α : Type} {f : Nat → α} {m p : Nat} {x : α} (h : p ≠ m) : pg_fu f m x p = f p := if_neg h
/-- what a new patch of store s may be -/
def pg_ok (ins : Nat → Bool) (S : Nat → Bool) (b : Bool) (o1 o2 : Option Nat) : Prop := (∀ q, o1 = some q → S q = true ∧ ins q = true) ∧ (∀ q, o2 = some q → S q = true ∧ ins q = true) ∧ (b = false → o2 = none ∧ ∃ q, o1 = some q)
section
variable {m : Nat} {ins : Nat → Bool} {uu ll : Nat → Option Nat} {st : Nat → Nat → Bool} {ct : Nat → Int32} {s : Nat} {b : Bool} {o1 o2 : Option Nat}
theorem pg_D_old {p q : Nat} (hp : p < m) : pg_D (pg_fu uu m o1) (pg_fu ll m o2) p q ↔ pg_D uu ll p q := by
  unfold pg_D
  rw [pg_fu_n (by omega), pg_fu_n (by omega)]
theorem pg_nd_old (hW : pg_WP m ins uu ll) {a : Nat} (ha : a < m) (q : Nat) : pg_nd (pg_fu uu m o1) (pg_fu ll m o2) a q = pg_nd uu ll a q :=
  pg_B_c (pg_cl_below (m := m) (fun x y hx => pg_D_old hx) (fun x y hx e => by have := pg_D_lt hW hx ((pg_D_old hx).mp e); omega) ha)
theorem pg_nd_new (hW : pg_WP m ins uu ll) (h1 : ∀ q, o1 = some q → q < m) (h2 : ∀ q, o2 = some q → q < m) (q : Nat) : pg_nd (pg_fu uu m o1) (pg_fu ll m o2) m q = (pg_wn uu ll o1 q || pg_wn uu ll o2 q) := by
  have wn : ∀ o : Option Nat, pg_wn uu ll o q = true ↔ ∃ a, o = some a ∧ (pg_nd uu ll a q = true ∨ q = a) := by
    intro o
    cases o with
    | none =>
      constructor
      · intro h
        cases h
      · rintro ⟨a, h, _⟩
        cases h
    | some a =>
      show (pg_nd uu ll a q || decide (q = a)) = true ↔ _
      rw [Bool.or_eq_true, decide_eq_true_eq]
      constructor
      · intro h
        exact ⟨a, rfl, h⟩
      · rintro ⟨c, e, h⟩
        cases e
        exact h
  have D1 : ∀ a, pg_D (pg_fu uu m o1) (pg_fu ll m o2) m a ↔ (o1 = some a ∨ o2 = some a) := by
    intro a
    unfold pg_D
    rw [pg_fu_s, pg_fu_s]
  have lt : ∀ a, (o1 = some a ∨ o2 = some a) → a < m := fun a h => h.elim (h1 a) (h2 a)
  refine pg_beq ?_
  rw [Bool.or_eq_true, wn o1, wn o2]
  constructor
  · intro h
    obtain ⟨a, h3, h4⟩ := pg_cl_first (pg_B_t.mp h)
    rw [D1] at h3
    have hk : pg_nd uu ll a q = true ∨ q = a := by
      rcases h4 with h4 | h4
      · exact Or.inr h4.symm
      · left
        rw [← pg_nd_old hW (lt a h3) (o1 := o1) (o2 := o2)]
        exact pg_B_t.mpr h4
    rcases h3 with h3 | h3
    · exact Or.inl ⟨a, h3, hk⟩
    · exact Or.inr ⟨a, h3, hk⟩
  · intro h
    have key : ∀ a, (o1 = some a ∨ o2 = some a) → (pg_nd uu ll a q = true ∨ q = a) → pg_nd (pg_fu uu m o1) (pg_fu ll m o2) m q = true := by
      intro a ha hk
      have c1 : pg_cl (pg_D (pg_fu uu m o1) (pg_fu ll m o2)) m a := pg_cl_b ((D1 a).mpr ha)
      rcases hk with hk | hk
      · rw [← pg_nd_old hW (lt a ha) (o1 := o1) (o2 := o2)] at hk
        exact pg_B_t.mpr (pg_cl_t c1 (pg_B_t.mp hk))
      · subst hk
        exact pg_B_t.mpr c1
    rcases h with ⟨a, ha, hk⟩ | ⟨a, ha, hk⟩
    · exact key a (Or.inl ha) hk
    · exact key a (Or.inr ha) hk
theorem pg_WF_mk (hW : pg_WF m ins uu ll st) (hs : s < 3) (hm : m < 60) (ho : pg_ok ins (st s) b o1 o2) : pg_WF (m + 1) (pg_fu ins m b) (pg_fu uu m o1) (pg_fu ll m o2) st := by
  have hl : ∀ q, st s q = true → q < m := fun q h => (hW.2 s hs q h).1
  refine ⟨⟨by omega, fun p hp => ?_⟩, fun t ht p hp => ?_⟩
  · by_cases c : p = m
    · subst c
      rw [pg_fu_s, pg_fu_s, pg_fu_s]
      refine ⟨fun q h => ?_, fun q h => ?_, ho.2.2⟩
      · have z := ho.1 q h
        have y := hl q z.1
        rw [pg_fu_n (by omega)]
        exact ⟨y, z.2⟩
      · have z := ho.2.1 q h
        have y := hl q z.1
        rw [pg_fu_n (by omega)]
        exact ⟨y, z.2⟩
    · rw [pg_fu_n c, pg_fu_n c, pg_fu_n c]
      have z := hW.1.2 p (by omega)
      refine ⟨fun q h => ?_, fun q h => ?_, z.2.2⟩
      · have y := z.1 q h
        rw [pg_fu_n (by omega)]
        exact y
      · have y := z.2.1 q h
        rw [pg_fu_n (by omega)]
        exact y
  · have z := hW.2 t ht p hp
    refine ⟨by omega, fun q hq => z.2 q ((pg_D_old z.1).mp hq)⟩
theorem pg_D_newS (ho : pg_ok ins (st s) b o1 o2) : ∀ q, pg_D (pg_fu uu m o1) (pg_fu ll m o2) m q → st s q = true := by
  intro q h
  unfold pg_D at h
  rw [pg_fu_s, pg_fu_s] at h
  rcases h with h | h
  · exact (ho.1 q h).1
  · exact (ho.2.1 q h).1
theorem pg_WF_new (hW : pg_WF m ins uu ll st) (hs : s < 3) (hm : m < 60) (ho : pg_ok ins (st s) b o1 o2) : pg_WF (m + 1) (pg_fu ins m b) (pg_fu uu m o1) (pg_fu ll m o2) (pg_gv st s m) :=
  pg_WF_gv (pg_WF_mk hW hs hm ho) hs (by omega) (pg_D_newS ho)
variable {pi up lo cx : Nat → Int32} {iw tl tx : Nat → Int32} {ns ps ss lt lf : Nat → Int64}
theorem xs_make {post : Int32 → SX → Prop} {c : Int32} (hW : pg_WF m ins uu ll st) (hX : pg_RX m ins uu ll st ct (nI m, pi, up, lo, cx, ns, ps, ss, lt, lf, iw, tl, tx)) (hs : s < 3) (hm : m < 60) (ho : pg_ok ins (st s) b o1 o2) (k : ∀ u', pg_RX (m + 1) (pg_fu ins m b) (pg_fu uu m o1) (pg_fu ll m o2) (pg_gv st s m) (upd ct m c) u' → post (nI m) u') : wpX_make post (nI m, pi, up, lo, cx, ns, ps, ss, lt, lf, iw, tl, tx) (nI s) (pg_b b) (pg_o o1) (pg_o o2) c := by
  obtain ⟨_, hc, hP, hS⟩ := hX
  subst hc
  have hl : ∀ q, st s q = true → q < m := fun q h => (hW.2 s hs q h).1
  have h1 : ∀ q, o1 = some q → q < m := fun q h => hl q (ho.1 q h).1
  have h2 : ∀ q, o2 = some q → q < m := fun q h => hl q (ho.2.1 q h).1
  have hi := pg_in60 hm
  have hN : ∀ p, p < m → ∀ q, pg_tb (ns p) q = pg_nd uu ll p q := fun p hp => (hP p hp).2.2.2
  refine And.intro hi ?_
  rw [pg_c (by omega), pg_b_vn]
  refine nm_e (And.intro hi (nm_e (And.intro hi (nm_e (And.intro hi (nm_e ?_))))))
  refine xs_withNeeds (m := m) (by omega) hN h1 (fun y1 hy1 => xs_withNeeds (m := m) (by omega) hN h2 (fun y2 hy2 => And.intro hi (nm_e (nm_r (nI_1 m) ?_))))
  refine xs_add (m := m + 1) (p := m) (pg_WF_mk hW hs hm ho) (ct := upd cx m c) ⟨rfl, rfl, fun p hp => ?_, fun t ht => ?_⟩ hs (by omega) ?_ (pg_D_newS ho) (fun ps' ss' lt' lf' iw' h => k _ h)
  · by_cases e : p = m
    · subst e
      rw [pk_us, pk_us, pk_us, pk_uLs, pg_fu_s, pg_fu_s, pg_fu_s]
      refine ⟨rfl, rfl, rfl, fun q => ?_⟩
      rw [pg_tb_or, hy1, hy2, pg_nd_new hW.1 h1 h2]
    · have z := hP p (by omega)
      rw [pk_un e, pk_un e, pk_un e, pk_uLn e, pg_fu_n e, pg_fu_n e, pg_fu_n e]
      refine ⟨z.1, z.2.1, z.2.2.1, fun q => ?_⟩
      rw [pg_nd_old hW.1 (by omega)]
      exact z.2.2.2 q
  · obtain ⟨a1, a2, a3, a4⟩ := hS t ht
    have ne : ∀ p, st t p = true → p ≠ m := fun p hp => by have := (hW.2 t ht p hp).1; omega
    have e1 : pg_sk (pg_fu ins m b) (pg_fu uu m o1) (st t) = pg_sk ins uu (st t) := pg_sk_c (fun p hp => ⟨pg_fu_n (ne p hp), pg_fu_n (ne p hp)⟩)
    have e2 : pg_op (pg_fu ins m b) (pg_fu uu m o1) (st t) = pg_op ins uu (st t) := pg_op_c (fun p hp => ⟨pg_fu_n (ne p hp), pg_fu_n (ne p hp)⟩)
    have e3 : pg_ld (pg_fu ins m b) (pg_fu uu m o1) (pg_fu ll m o2) (st t) = pg_ld ins uu ll (st t) := pg_E_c (fun p hp => ⟨pg_fu_n (ne p hp), pg_fu_n (ne p hp), pg_fu_n (ne p hp)⟩)
    refine ⟨a1, fun a => by rw [e1]; exact a2 a, fun a ha c => ?_, ?_⟩
    · rw [e3]
      refine a3 a ?_ c
      have z : (st t a && pg_fu ins m b a) = true := ha
      rw [Bool.and_eq_true] at z
      rw [pg_fu_n (ne a z.1)] at z
      show (st t a && ins a) = true
      rw [z.1, z.2]; rfl
    · rw [e2, e3]
      exact a4
  · cases e : st s m with
    | false => rfl
    | true => have := hl m e; omega
end
end
section
/-! Y: small methods, ways -/
theorem pg_if {c d A B : Prop} (e : c ↔ d) (f : d → A) (g : ¬ d → B) : (c → A) ∧ (¬ c → B) := ⟨fun h => f (e.mp h), fun h => g (fun z => h (e.mpr z))⟩
theorem ys_isStoreF {post : Int32 → Prop} {v : SY} {x : Int32} (h : x < 0 ∨ ¬ x < 3) (k : post 0) : wpY_isStore post v x := by
  obtain ⟨md, yl, ol, us, ls, cy, se, me, pl, xt, ot, wa⟩ := v
  exact br_c (fun _ => k) (fun h0 => br_t (pg_sb h h0) k)
theorem ys_isStoreT {post : Int32 → Prop} {v : SY} {s : Nat} (hs : s < 3) (k : post 1) : wpY_isStore post v (nI s) := by
  obtain ⟨md, yl, ol, us, ls, cy, se, me, pl, xt, ot, wa⟩ := v
  exact br_f (nI_pos (by omega)) (br_f (nI_nlt (a := 2) (by omega) (by omega)) k)
section
variable {m : Nat} {ins : Nat → Bool} {uu ll : Nat → Option Nat} {st : Nat → Nat → Bool} {ct : Nat → Int32} {yl ol : Int32} {us ls cy se me pl xt ot : Nat → Int32} {wa : Nat → Int64} {s : Nat}
theorem ys_isPatchF {post : Int32 → Prop} {x : Int32} (h : x < 0 ∨ nI m ≤ x) (k : post 0) : wpY_isPatch post (nI m, yl, ol, us, ls, cy, se, me, pl, xt, ot, wa) x :=
  br_c (fun _ => k) (fun h0 => br_t (h.resolve_left h0) k)
theorem ys_isPatchT {post : Int32 → Prop} {p : Nat} (hm : m ≤ 60) (hp : p < m) (k : post 1) : wpY_isPatch post (nI m, yl, ol, us, ls, cy, se, me, pl, xt, ot, wa) (nI p) :=
  br_f (nI_pos (by omega)) (br_f (nI_ge hp (by omega)) k)
theorem ys_hasIt {post : Int32 → Prop} {p : Nat} (hm : m ≤ 60) (hE : pg_SY m st se) (hs : s < 3) (hp : p < m) (k : post (pg_b (st s p))) : wpY_hasIt post (nI m, yl, ol, us, ls, cy, se, me, pl, xt, ot, wa) (nI s) (nI p) := by
  refine And.intro (pg_in180 hs (by omega)) ?_
  rw [pg_c180 hs (by omega), hE s hs p hp]
  exact And.intro (pg_b_nar _) k
theorem pg_lw2 {p : Nat} (hl : ∀ q, ll p = some q → q < 60) : pg_lw ins ll p = -2 ↔ ins p = false := by
  unfold pg_lw
  cases e : ins p with
  | false => simp
  | true =>
    rw [if_pos rfl]
    cases e2 : ll p with
    | none => exact ⟨fun h => absurd h (by decide), fun h => by cases h⟩
    | some q => exact ⟨fun h => absurd h (pg_nm2 (by have := hl q e2; omega)), fun h => by cases h⟩
theorem ys_isLine {post : Int32 → Prop} {p : Nat} (hW : pg_WP m ins uu ll) (hP : pg_PY m ins uu ll us ls) (hp : p < m) (k : post (pg_b (ins p))) : wpY_isLine post (nI m, yl, ol, us, ls, cy, se, me, pl, xt, ot, wa) (nI p) := by
  have hm := hW.1
  refine And.intro (pg_in60 (by omega)) ?_
  rw [pg_c (by omega), (hP p hp).2]
  have z := pg_lw2 (ins := ins) (ll := ll) (p := p) (fun q h => by have := ((hW.2 p hp).2.1 q h).1; omega)
  cases e : ins p with
  | false => rw [e] at k; exact br_t (z.mpr e) k
  | true => rw [e] at k; exact br_f (fun h => by rw [z.mp h] at e; cases e) k
theorem ys_leads {post : Int32 → Prop} {fc : Int32} {a b : Nat} (ha : a < 60) (hb : b < 60) (k : post (pg_b (pg_tb (wa a) b))) : wpY_leads post (fc, yl, ol, us, ls, cy, se, me, pl, xt, ot, wa) (nI a) (nI b) := by
  refine And.intro (pg_in60 ha) ?_
  rw [pg_c (by omega)]
  cases e : pg_tb (wa a) b with
  | true => rw [e] at k; exact br_t ((pg_has (by omega)).mpr e) k
  | false => rw [e] at k; exact br_f (fun h => by rw [(pg_has (by omega)).mp h] at e; cases e) k
theorem ys_isBefore {post : Int32 → Prop} {fc : Int32} {a b : Nat} (ha : a < 60) (hb : b < 60) (k : post (pg_b (pg_tb (wa a) b && !pg_tb (wa b) a))) : wpY_isBefore post (fc, yl, ol, us, ls, cy, se, me, pl, xt, ot, wa) (nI a) (nI b) := by
  unfold wpY_isBefore
  refine ys_leads ha hb ?_
  refine pg_br (fun e => ?_) (fun e => ys_leads hb ha ?_)
  · rw [e] at k; exact k
  · rw [e, Bool.true_and] at k
    refine pg_br (fun e2 => ?_) (fun e2 => ?_)
    · rw [e2] at k; exact k
    · rw [e2] at k; exact k
/-! the rounds of Warshall -/
theorem ys_fw_142 {post : SY → Prop} {J : Int32 → (Nat → Int32) → (Nat → Int32) → (Nat → Int32) → (Nat → Int32) → (Nat → Int32) → (Nat → Int32) → (Nat → Int32) → (Nat → Int32) → (Nat → Int64) → Prop} {w : Nat → Nat → Bool} {k : Nat} (hm : m ≤ 60) (hk : k < m) (hJ : ∀ wa, (∀ p, p < m → ∀ c, pg_tb (wa p) c = pg_wk w k p c) → J (nI (k + 1)) us ls cy se me pl xt ot wa) : ∀ (n i : Nat) (wa : Nat → Int64), i ≤ m → m < n + i → (∀ p, p < m → ∀ c, pg_tb (wa p) c = if p < i then pg_wk w k p c else w p c) → wY_findWays_142 post J (nI k) (nI m) yl ol n (nI i) us ls cy se me pl xt ot wa := by
  intro n
  induction n with
  | zero => intro i wa h1 h2; omega
  | succ n ih =>
    intro i wa h1 h2 hw
    have hcol : ∀ p, p < m → pg_tb (wa p) k = w p k := fun p hp => by
      rw [hw p hp k]
      by_cases c : p < i
      · rw [if_pos c, pg_wk_c]
      · rw [if_neg c]
    have hrow : ∀ c, pg_tb (wa k) c = w k c := fun c => by
      rw [hw k hk c]
      by_cases d : k < i
      · rw [if_pos d, pg_wk_k]
      · rw [if_neg d]
    refine pk_le m i (fun h => ?_) (fun h => And.intro (pg_in60 (by omega)) ?_)
    · refine nm_r (nI_1 k) (hJ wa (fun p hp c => ?_))
      rw [hw p hp c, if_pos (by omega)]
    · rw [pg_c (by omega), pg_c (by omega)]
      have hin := pg_in60 (s := i) (by omega)
      have hi : ∀ c, pg_tb (wa i) c = w i c := fun c => by rw [hw i h c, if_neg (by omega)]
      refine pg_if (pg_has (x := wa i) (p := k) (by omega)) (fun e => ?_) (fun e => ?_)
      · rw [hi k] at e
        refine And.intro hin (And.intro (pg_in60 (by omega)) (And.intro hin (nm_e (nm_r (nI_1 i) (ih (i + 1) _ (by omega) (by omega) (fun p hp c => ?_))))))
        by_cases d : p = i
        · subst d
          rw [pk_uLs, pg_tb_or, hi c, hrow c, if_pos (by omega)]
          unfold pg_wk
          rw [e, Bool.true_and]
        · rw [pk_uLn d, hw p hp c]
          by_cases d2 : p < i
          · rw [if_pos d2, if_pos (by omega)]
          · rw [if_neg d2, if_neg (by omega)]
      · rw [hi k] at e
        refine And.intro hin (And.intro hin (nm_e (nm_r (nI_1 i) (ih (i + 1) _ (by omega) (by omega) (fun p hp c => ?_)))))
        by_cases d : p = i
        · subst d
          rw [pk_uLs, hi c, if_pos (by omega)]
          unfold pg_wk
          rw [show w p k = false from by cases z : w p k with | false => rfl | true => exact absurd z e, Bool.false_and, Bool.or_false]
        · rw [pk_uLn d, hw p hp c]
          by_cases d2 : p < i
          · rw [if_pos d2, if_pos (by omega)]
          · rw [if_neg d2, if_neg (by omega)]
theorem ys_fw_132 {post : SY → Prop} {E : Nat → Nat → Prop} (hm : m ≤ 60) (hE : ∀ x y, E x y → x < m ∧ y < m) (k : ∀ wa, (∀ p, p < m → ∀ c, pg_tb (wa p) c = pg_B (pg_cl E p c)) → post (nI m, yl, ol, us, ls, cy, se, me, pl, xt, ot, wa)) : ∀ (n i : Nat) (wa : Nat → Int64), i ≤ m → m < n + i → pg_WA E m i (fun p c => pg_tb (wa p) c) → wY_findWays_132 post (nI m) yl ol n (nI i) us ls cy se me pl xt ot wa := by
  intro n
  induction n with
  | zero => intro i wa h1 h2; omega
  | succ n ih =>
    intro i wa h1 h2 hw
    refine pk_le m i (fun h => ?_) (fun h => ⟨m + 1, ?_⟩)
    · have e : i = m := by omega
      subst e
      exact k wa (fun p hp c => pg_WA_e hE hw hp c)
    · refine ys_fw_142 (w := fun p c => pg_tb (wa p) c) hm h (fun wa' h' => ?_) (m + 1) 0 wa (by omega) (by omega) (fun p hp c => ?_)
      · exact ih (i + 1) wa' (by omega) (by omega) (pg_WA_s hE hw h h')
      · rw [if_neg (by omega)]
/-- the steps that one patch brings -/
theorem ys_fw_88 {post : SY → Prop} {J : Int32 → (Nat → Int32) → (Nat → Int32) → (Nat → Int32) → (Nat → Int32) → (Nat → Int32) → (Nat → Int32) → (Nat → Int32) → (Nat → Int32) → (Nat → Int64) → Prop} {i : Nat} {z : Int64} {x1 : Int32} (hW : pg_WP m ins uu ll) (hP : pg_PY m ins uu ll us ls) (hi : i < m) (hz : ∀ c, pg_tb z c = (pg_tb (wa i) c || decide (ll i = some c))) (hJ : ∀ wa', (∀ p c, pg_tb (wa' p) c = (pg_tb (wa p) c || (decide (p = i) && decide (ll i = some c)) || (decide (uu i = some p) && decide (c = i)))) → J (nI (i + 1)) us ls cy se me pl xt ot wa') : wY_findWays_88 post J x1 (nI i) z (nI i) (nI m) yl ol us ls cy se me pl xt ot wa := by
  have hm := hW.1
  have hin := pg_in60 (s := i) (by omega)
  have hu : ∀ q, uu i = some q → q < 60 := fun q h => by have := ((hW.2 i hi).1 q h).1; omega
  have h1 : ∀ p c, pg_tb (vp_updL wa i z p) c = (pg_tb (wa p) c || (decide (p = i) && decide (ll i = some c))) := fun p c => by
    by_cases d : p = i
    · subst d
      rw [pk_uLs, hz c, decide_eq_true rfl, Bool.true_and]
    · rw [pk_uLn d, decide_eq_false d, Bool.false_and, Bool.or_false]
  refine And.intro hin ?_
  rw [pg_c (by omega), (hP i hi).1]
  refine nm_e (And.intro hin ?_)
  refine pg_bo0 (fun q e => by have := hu q e; omega) (fun e => ?_) (fun q e => ?_)
  · refine nm_r (nI_1 i) (hJ _ (fun p c => ?_))
    rw [h1, e]
    simp
  · have hq := hu q e
    have hqi := pg_in60 hq
    rw [e]
    refine And.intro hin (And.intro hin (And.intro hqi (And.intro hqi ?_)))
    rw [show pg_o (some q) = nI q from rfl, pg_c (a := q) (by omega)]
    refine nm_e (nm_r (nI_1 i) (hJ _ (fun p c => ?_)))
    rw [e]
    by_cases d : p = q
    · subst d
      rw [pk_uLs, pg_tb_or, h1, pg_tb_bit (by omega), decide_eq_true (rfl : some p = some p), Bool.true_and]
    · rw [pk_uLn d, h1, decide_eq_false (fun z => d (Option.some.inj z).symm), Bool.false_and, Bool.or_false]
theorem ys_fw_25 {post : SY → Prop} (hW : pg_WF m ins uu ll st) (hP : pg_PY m ins uu ll us ls) (hE : pg_SY m st se) (hs : s < 3) (k : ∀ wa, (∀ p, p < m → ∀ c, pg_tb (wa p) c = pg_ld ins uu ll (st s) p c) → post (nI m, yl, ol, us, ls, cy, se, me, pl, xt, ot, wa)) : ∀ (n i : Nat) (wa : Nat → Int64), i ≤ m → m < n + i → (∀ p, p < m → ∀ c, pg_tb (wa p) c = pg_B (∃ q, q < i ∧ st s q = true ∧ ins q = true ∧ ((q = p ∧ ll q = some c) ∨ (uu q = some p ∧ q = c)))) → wY_findWays_25 post (nI s) (nI m) yl ol n (nI i) us ls cy se me pl xt ot wa := by
  have hm := hW.1.1
  have hEnd : ∀ x y, pg_E ins uu ll (st s) x y → x < m ∧ y < m := fun x y e => by
    have z := pg_E_ends hW.1 (hW.2 s hs) e
    exact ⟨(hW.2 s hs x z.1.1).1, (hW.2 s hs y z.2.1).1⟩
  intro n
  induction n with
  | zero => intro i wa h1 h2; omega
  | succ n ih =>
    intro i wa h1 h2 hw
    have skip : (st s i && ins i) = false → ∀ p, p < m → ∀ c, pg_tb (wa p) c = pg_B (∃ q, q < i + 1 ∧ st s q = true ∧ ins q = true ∧ ((q = p ∧ ll q = some c) ∨ (uu q = some p ∧ q = c))) := by
      intro e p hp c
      rw [hw p hp c]
      refine pg_B_c ⟨fun ⟨q, h1, h2⟩ => ⟨q, by omega, h2⟩, fun ⟨q, h1, h2, h3, h4⟩ => ⟨q, ?_, h2, h3, h4⟩⟩
      rcases Nat.lt_or_ge q i with d | d
      · exact d
      · have e2 : q = i := by omega
        rw [e2] at h2 h3
        rw [h2, h3] at e
        cases e
    refine pk_le m i (fun h => ⟨m + 1, ?_⟩) (fun h => ?_)
    · have e : i = m := by omega
      subst e
      refine ys_fw_132 (E := pg_E ins uu ll (st s)) hm hEnd (fun wa' h' => k wa' h') (i + 1) 0 wa (by omega) (by omega) ⟨fun p c hp hc => ?_, fun p c e => ?_, fun j hj => by omega⟩
      · have hc' : pg_tb (wa p) c = true := hc
        rw [hw p hp c, pg_B_t] at hc'
        obtain ⟨q, _, h2, h3, h4⟩ := hc'
        exact pg_cl_b ⟨q, h2, h3, h4⟩
      · show pg_tb (wa p) c = true
        rw [hw p (hEnd p c e).1 c, pg_B_t]
        obtain ⟨q, h2, h3, h4⟩ := e
        exact ⟨q, (hW.2 s hs q h2).1, h2, h3, h4⟩
    · have hin := pg_in60 (s := i) (by omega)
      refine ys_hasIt hm hE hs h ?_
      refine pg_br (fun e => ?_) (fun e => ys_isLine hW.1 hP h ?_)
      · exact nm_r (nI_1 i) (ih (i + 1) wa (by omega) (by omega) (skip (by rw [e]; rfl)))
      · refine pg_br (fun e2 => ?_) (fun e2 => And.intro hin ?_)
        · exact nm_r (nI_1 i) (ih (i + 1) wa (by omega) (by omega) (skip (by rw [e2, Bool.and_false])))
        · have eL : pg_lw ins ll i = pg_o (ll i) := by unfold pg_lw; rw [if_pos e2]
          rw [pg_c (by omega), (hP i h).2, eL]
          have hl : ∀ q, ll i = some q → q < 60 := fun q z => by have := ((hW.1.2 i h).2.1 q z).1; omega
          have hJ : ∀ wa', (∀ p c, pg_tb (wa' p) c = (pg_tb (wa p) c || (decide (p = i) && decide (ll i = some c)) || (decide (uu i = some p) && decide (c = i)))) → wY_findWays_25 post (nI s) (nI m) yl ol n (nI (i + 1)) us ls cy se me pl xt ot wa' := by
            intro wa' h'
            refine ih (i + 1) wa' (by omega) (by omega) (fun p hp c => ?_)
            rw [h' p c, hw p hp c]
            refine pg_beq ?_
            rw [Bool.or_eq_true, Bool.or_eq_true, Bool.and_eq_true, Bool.and_eq_true, pg_B_t, pg_B_t, decide_eq_true_eq, decide_eq_true_eq, decide_eq_true_eq, decide_eq_true_eq]
            constructor
            · rintro ((⟨q, h1, h2⟩ | ⟨h1, h2⟩) | ⟨h1, h2⟩)
              · exact ⟨q, by omega, h2⟩
              · exact ⟨i, by omega, e, e2, Or.inl ⟨h1.symm, h2⟩⟩
              · exact ⟨i, by omega, e, e2, Or.inr ⟨h1, h2.symm⟩⟩
            · rintro ⟨q, h1, h2, h3, h4⟩
              by_cases d : q = i
              · subst d
                rcases h4 with ⟨h4, h5⟩ | ⟨h4, h5⟩
                · exact Or.inl (Or.inr ⟨h4.symm, h5⟩)
                · exact Or.inr ⟨h4, h5.symm⟩
              · exact Or.inl (Or.inl ⟨q, by omega, h2, h3, h4⟩)
          refine pg_bo0 (fun q z => by have := hl q z; omega) (fun z => And.intro hin ?_) (fun q z => And.intro hin (And.intro hin ?_))
          · exact ys_fw_88 hW.1 hP h (fun c => by rw [z]; simp) hJ
          · refine ys_fw_88 hW.1 hP h (fun c => ?_) hJ
            have hq := hl q z
            rw [z, show pg_o (some q) = nI q from rfl, pg_tb_or, pg_tb_bit (by omega)]
            congr 1
            exact decide_eq_decide.mpr ⟨fun y => by rw [y], fun y => (Option.some.inj y).symm⟩
theorem ys_fw_2 {post : SY → Prop} {x1 : Int32} (hm : m ≤ 60) (k : ∀ wa, (∀ p, p < m → wa p = 0) → ∃ n25, wY_findWays_25 post x1 (nI m) yl ol n25 0 us ls cy se me pl xt ot wa) : ∀ (n i : Nat) (wa : Nat → Int64), i ≤ m → m < n + i → (∀ p, p < i → wa p = 0) → wY_findWays_2 post x1 (nI m) yl ol n (nI i) us ls cy se me pl xt ot wa := by
  intro n
  induction n with
  | zero => intro i wa h1 h2; omega
  | succ n ih =>
    intro i wa h1 h2 hw
    refine pk_le m i (fun h => ?_) (fun h => And.intro (pg_in60 (by omega)) ?_)
    · exact k wa (fun p hp => hw p (by omega))
    · rw [pg_c (by omega)]
      refine nm_e (nm_r (nI_1 i) (ih (i + 1) _ (by omega) (by omega) (fun p hp => ?_)))
      by_cases d : p = i
      · subst d
        rw [pk_uLs]
      · rw [pk_uLn d]
        exact hw p (by omega)
theorem ys_findWays {post : SY → Prop} (hW : pg_WF m ins uu ll st) (hP : pg_PY m ins uu ll us ls) (hE : pg_SY m st se) (hs : s < 3) (k : ∀ wa, (∀ p, p < m → ∀ c, pg_tb (wa p) c = pg_ld ins uu ll (st s) p c) → post (nI m, yl, ol, us, ls, cy, se, me, pl, xt, ot, wa)) : wpY_findWays post (nI m, yl, ol, us, ls, cy, se, me, pl, xt, ot, wa) (nI s) := by
  have hm := hW.1.1
  refine ⟨m + 1, ys_fw_2 hm (fun wa' h' => ⟨m + 1, ?_⟩) (m + 1) 0 wa (by omega) (by omega) (fun p hp => by omega)⟩
  refine ys_fw_25 hW hP hE hs k (m + 1) 0 wa' (by omega) (by omega) (fun p hp c => ?_)
  rw [h' p hp, pg_tb_0]
  symm
  rw [pg_B_f]
  rintro ⟨q, h, _⟩
  omega
end
end
section
/-! Y: texts -/
section
variable {m : Nat} {ins : Nat → Bool} {uu ll : Nat → Option Nat} {st : Nat → Nat → Bool} {ct : Nat → Int32} {yl ol : Int32} {us ls cy se me pl xt ot : Nat → Int32} {wa : Nat → Int64} {s : Nat}
theorem ys_isOpen_21 {post : Int32 → Prop} {a : Nat} (hW : pg_WF m ins uu ll st) (hP : pg_PY m ins uu ll us ls) (hE : pg_SY m st se) (hs : s < 3) (ha : a < m) (k : post (pg_b (!pg_sk ins uu (st s) a))) : ∀ (n i : Nat), i ≤ m → m < n + i → (∀ p, p < i → st s p = true → ins p = false → ¬ uu p = some a) → wY_isOpen_21 post (nI s) (nI a) (nI m) yl ol us ls cy se me pl xt ot wa n (nI i) := by
  have hm := hW.1.1
  intro n
  induction n with
  | zero => intro i h1 h2; omega
  | succ n ih =>
    intro i h1 h2 hn
    have nxt : (st s i = true → ins i = false → ¬ uu i = some a) → ∀ p, p < i + 1 → st s p = true → ins p = false → ¬ uu p = some a := by
      intro h p hp
      by_cases c : p = i
      · rw [c]; exact h
      · exact hn p (by omega)
    refine pk_le m i (fun h => ?_) (fun h => ?_)
    · have e : pg_sk ins uu (st s) a = false := by
        rw [pg_sk, pg_B_f]
        rintro ⟨p, h3, h4, h5⟩
        exact hn p (by have := (hW.2 s hs p h3).1; omega) h3 h4 h5
      rw [e] at k
      exact k
    · refine ys_hasIt hm hE hs h ?_
      refine pg_br (fun e => ?_) (fun e => ys_isLine hW.1 hP h ?_)
      · exact nm_r (nI_1 i) (ih (i + 1) (by omega) (by omega) (nxt (fun z => by rw [e] at z; cases z)))
      · refine pg_br (fun e2 => And.intro (pg_in60 (by omega)) ?_) (fun e2 => ?_)
        · rw [pg_c (by omega), (hP i h).1]
          refine pg_if (pg_o_eq (fun q z => by have := ((hW.1.2 i h).1 q z).1; omega) (by omega)) (fun e3 => ?_) (fun e3 => ?_)
          · have e4 : pg_sk ins uu (st s) a = true := pg_B_t.mpr ⟨i, e, e2, e3⟩
            rw [e4] at k
            exact k
          · exact nm_r (nI_1 i) (ih (i + 1) (by omega) (by omega) (nxt (fun _ _ => e3)))
        · exact nm_r (nI_1 i) (ih (i + 1) (by omega) (by omega) (nxt (fun _ z => by rw [e2] at z; cases z)))
theorem ys_isOpen {post : Int32 → Prop} {a : Nat} (hW : pg_WF m ins uu ll st) (hP : pg_PY m ins uu ll us ls) (hE : pg_SY m st se) (hs : s < 3) (ha : a < m) (k : post (pg_b (pg_op ins uu (st s) a))) : wpY_isOpen post (nI m, yl, ol, us, ls, cy, se, me, pl, xt, ot, wa) (nI s) (nI a) := by
  have hm := hW.1.1
  unfold pg_op at k
  unfold wpY_isOpen
  refine ys_hasIt hm hE hs ha ?_
  refine pg_br (fun e => ?_) (fun e => ys_isLine hW.1 hP ha ?_)
  · rw [e] at k; exact k
  · refine pg_br (fun e2 => ?_) (fun e2 => ⟨m + 1, ?_⟩)
    · rw [e, e2] at k; exact k
    · rw [e, e2] at k
      exact ys_isOpen_21 hW hP hE hs ha k (m + 1) 0 (by omega) (by omega) (fun p hp => by omega)
theorem ys_ff_19 {post J : Int32 → Prop} {R : Nat → Bool} {L : Nat → Nat → Bool} {a : Nat} (hm : m ≤ 60) (ha : a < m) (hR : ∀ b, R b = true → b < m) (hM : ∀ b, b < m → me b = pg_b (R b)) (hL : ∀ p, p < m → ∀ c, pg_tb (wa p) c = L p c) (k1 : pg_fr R L a = true → post (nI a)) (k0 : pg_fr R L a = false → J (nI (a + 1))) : ∀ (n i : Nat) (f : Bool), i ≤ m → m < n + i → (f = true ↔ (R a = true ∧ ∀ b, b < i → R b = true → b ≠ a → L b a = true → L a b = true)) → wY_firstFree_19 post J (nI a) (nI m) yl ol us ls cy se me pl xt ot wa n (pg_b f) (nI i) := by
  intro n
  induction n with
  | zero => intro i f h1 h2; omega
  | succ n ih =>
    intro i f h1 h2 hf
    refine pk_le m i (fun h => ?_) (fun h => ?_)
    · have e : (f = true ↔ pg_fr R L a = true) := by
        rw [hf]
        unfold pg_fr
        rw [pg_B_t]
        exact ⟨fun z => ⟨z.1, fun b hb => z.2 b (by have := hR b hb; omega) hb⟩, fun z => ⟨z.1, fun b _ => z.2 b⟩⟩
      have e2 := pg_beq e
      refine pg_br (fun z => nm_r (nI_1 a) (k0 (by rw [← e2]; exact z))) (fun z => k1 (by rw [← e2]; exact z))
    · have keep : ∀ g : Bool, g = f → (R i = true → i ≠ a → L i a = true → L a i = true) → (g = true ↔ (R a = true ∧ ∀ b, b < i + 1 → R b = true → b ≠ a → L b a = true → L a b = true)) := by
        intro g hg hi
        rw [hg, hf]
        constructor
        · intro z
          refine ⟨z.1, fun b hb => ?_⟩
          by_cases c : b = i
          · rw [c]; exact hi
          · exact z.2 b (by omega)
        · intro z
          exact ⟨z.1, fun b hb => z.2 b (by omega)⟩
      refine pg_br (fun e => ?_) (fun e => And.intro (pg_in60 (by omega)) ?_)
      · refine nm_r (nI_1 i) (ih (i + 1) false (by omega) (by omega) ?_)
        constructor
        · intro z; cases z
        · intro z
          rw [← e]
          exact hf.mpr ⟨z.1, fun b hb => z.2 b (by omega)⟩
      · rw [pg_c (by omega), hM i h]
        refine pg_br (fun e2 => ?_) (fun e2 => ?_)
        · exact nm_r (nI_1 i) (ih (i + 1) true (by omega) (by omega) (keep true e.symm (fun z => by rw [e2] at z; cases z)))
        · refine pk_eq i a (fun e3 => ?_) (fun e3 => ys_isBefore (by omega) (by omega) ?_)
          · exact nm_r (nI_1 i) (ih (i + 1) true (by omega) (by omega) (keep true e.symm (fun _ z => absurd e3 z)))
          · rw [hL i h, hL a ha]
            refine pg_br (fun e4 => ?_) (fun e4 => ?_)
            · refine nm_r (nI_1 i) (ih (i + 1) true (by omega) (by omega) (keep true e.symm (fun _ _ z => ?_)))
              rw [z] at e4
              simpa using e4
            · refine nm_r (nI_1 i) (ih (i + 1) false (by omega) (by omega) ?_)
              constructor
              · intro z; cases z
              · intro z
                rw [Bool.and_eq_true] at e4
                have z2 := z.2 i (by omega) e2 e3 e4.1
                rw [z2] at e4
                cases e4.2
theorem ys_ff_2 {post : Int32 → Prop} {R : Nat → Bool} {L : Nat → Nat → Bool} {t : Nat} (hm : m ≤ 60) (hR : ∀ b, R b = true → b < m) (hM : ∀ b, b < m → me b = pg_b (R b)) (hL : ∀ p, p < m → ∀ c, pg_tb (wa p) c = L p c) (ht : pg_fr R L t = true ∧ ∀ j, j < t → pg_fr R L j = false) (k : post (nI t)) : ∀ (n i : Nat), i ≤ t → t < n + i → wY_firstFree_2 post (nI m) yl ol us ls cy se me pl xt ot wa n (nI i) := by
  have htm := hR t (pg_B_t.mp ht.1).1
  intro n
  induction n with
  | zero => intro i h1 h2; omega
  | succ n ih =>
    intro i h1 h2
    refine br_f (nI_ge (by omega) (by omega)) (And.intro (pg_in60 (by omega)) ?_)
    rw [pg_c (by omega), hM i (by omega)]
    refine nm_e ⟨m + 1, ?_⟩
    refine ys_ff_19 hm (by omega) hR hM hL (fun e => ?_) (fun e => ?_) (m + 1) 0 (R i) (by omega) (by omega) ⟨fun z => ⟨z, fun b hb => by omega⟩, fun z => z.1⟩
    · have e2 : i = t := by
        rcases Nat.lt_or_ge i t with c | c
        · rw [ht.2 i c] at e; cases e
        · omega
      rw [e2]; exact k
    · refine ih (i + 1) ?_ (by omega)
      by_cases c : i = t
      · rw [c, ht.1] at e; cases e
      · omega
theorem ys_firstFree {post : Int32 → Prop} {R : Nat → Bool} {L : Nat → Nat → Bool} {t : Nat} (hm : m ≤ 60) (hR : ∀ b, R b = true → b < m) (hM : ∀ b, b < m → me b = pg_b (R b)) (hL : ∀ p, p < m → ∀ c, pg_tb (wa p) c = L p c) (ht : pg_fr R L t = true ∧ ∀ j, j < t → pg_fr R L j = false) (k : post (nI t)) : wpY_firstFree post (nI m, yl, ol, us, ls, cy, se, me, pl, xt, ot, wa) :=
  ⟨t + 1, ys_ff_2 hm hR hM hL ht k (t + 1) 0 (by omega) (by omega)⟩
theorem ys_ft_57 {post : SY → Prop} {R : Nat → Bool} {L : Nat → Nat → Bool} (hm : m ≤ 60) (hR : ∀ b, R b = true → b < m) (hT : ∀ a b c, L a b = true → L b c = true → L a c = true) (hL : ∀ p, p < m → ∀ c, pg_tb (wa p) c = L p c) (k : ∀ me xt, (∀ j, j < pg_tn R → xt j = nI (pg_tt R L j)) → post (nI m, nI (pg_tn R), ol, us, ls, cy, se, me, pl, xt, ot, wa)) : ∀ (n i : Nat) (me xt : Nat → Int32), i ≤ pg_tn R → pg_tn R < n + i → (∀ b, b < m → me b = pg_b (pg_rs R L i b)) → (∀ j, j < i → xt j = nI (pg_tt R L j)) → wY_findText_57 post (nI (pg_tn R)) (nI m) ol n (nI i) us ls cy se me pl xt ot wa := by
  have hR' : ∀ a, R a = true → a < 60 := fun a h => by have := hR a h; omega
  have hl := pg_tn_le (R := R)
  intro n
  induction n with
  | zero => intro i me xt h1 h2; omega
  | succ n ih =>
    intro i me xt h1 h2 hM hx
    refine pk_le (pg_tn R) i (fun h => ?_) (fun h => ?_)
    · have e : i = pg_tn R := by omega
      rw [e]
      rw [e] at hx
      exact k me xt hx
    · have htm := hR _ (pg_tt_in hR' hT h)
      refine ys_firstFree hm (fun b hb => hR b (pg_rs_in hb)) hM hL (pg_tt_fr hR' hT h) ?_
      refine And.intro (pg_in60 (by omega)) ?_
      rw [pg_c (by omega), pg_c (by omega), pg_vn0]
      refine nm_e (And.intro (pg_in60 (by omega)) (nm_e (nm_r (nI_1 i) (ih (i + 1) _ _ (by omega) (by omega) (fun b hb => ?_) (fun j hj => ?_)))))
      · rw [pg_rs_s]
        by_cases c : b = pg_tt R L i
        · rw [c, pk_us, decide_eq_true rfl, Bool.not_true, Bool.and_false]
        · rw [pk_un c, hM b hb, decide_eq_false c, Bool.not_false, Bool.and_true]
      · by_cases c : j = i
        · rw [c, pk_us]
        · rw [pk_un c]
          exact hx j (by omega)
theorem ys_ft_9 {post : SY → Prop} (hW : pg_WF m ins uu ll st) (hP : pg_PY m ins uu ll us ls) (hE : pg_SY m st se) (hs : s < 3) (k : ∀ me, (∀ b, b < m → me b = pg_b (pg_op ins uu (st s) b)) → ∃ n57, wY_findText_57 post (nI (pg_cnt (pg_op ins uu (st s)) m)) (nI m) ol n57 0 us ls cy se me pl xt ot wa) : ∀ (n i : Nat) (me : Nat → Int32), i ≤ m → m < n + i → (∀ b, b < i → me b = pg_b (pg_op ins uu (st s) b)) → wY_findText_9 post (nI s) (nI m) yl ol n (nI (pg_cnt (pg_op ins uu (st s)) i)) (nI i) us ls cy se me pl xt ot wa := by
  have hm := hW.1.1
  intro n
  induction n with
  | zero => intro i me h1 h2; omega
  | succ n ih =>
    intro i me h1 h2 hM
    refine pk_le m i (fun h => ?_) (fun h => ?_)
    · have e : i = m := by omega
      subst e
      exact k me hM
    · refine ys_isOpen hW hP hE hs h ?_
      have hM' : ∀ b, b < i + 1 → upd me i (pg_b (pg_op ins uu (st s) i)) b = pg_b (pg_op ins uu (st s) b) := fun b hb => by
        by_cases c : b = i
        · rw [c, pk_us]
        · rw [pk_un c]
          exact hM b (by omega)
      refine And.intro (pg_in60 (by omega)) ?_
      rw [pg_c (by omega), pg_b_vn]
      refine nm_e (And.intro (pg_in60 (by omega)) ?_)
      rw [pk_us]
      refine pg_br (fun e => ?_) (fun e => ?_)
      · rw [← pg_cnt_f e]
        exact nm_r (nI_1 i) (ih (i + 1) _ (by omega) (by omega) hM')
      · have z := ih (i + 1) _ (by omega) (by omega) hM'
        rw [pg_cnt_t e] at z
        exact nm_r (nI_1 _) (nm_r (nI_1 i) z)
/-- Y's text -/
theorem ys_findText {post : SY → Prop} (hW : pg_WF m ins uu ll st) (hP : pg_PY m ins uu ll us ls) (hE : pg_SY m st se) (hs : s < 3) (k : ∀ me xt wa, (∀ p, p < m → ∀ c, pg_tb (wa p) c = pg_ld ins uu ll (st s) p c) → (∀ j, j < pg_tn (pg_op ins uu (st s)) → xt j = nI (pg_tt (pg_op ins uu (st s)) (pg_ld ins uu ll (st s)) j)) → post (nI m, nI (pg_tn (pg_op ins uu (st s))), ol, us, ls, cy, se, me, pl, xt, ot, wa)) : wpY_findText post (nI m, yl, ol, us, ls, cy, se, me, pl, xt, ot, wa) (nI s) := by
  have hm := hW.1.1
  have hR : ∀ a, pg_op ins uu (st s) a = true → a < m := fun a h => (hW.2 s hs a (pg_op_in h).1).1
  have en : pg_cnt (pg_op ins uu (st s)) m = pg_tn (pg_op ins uu (st s)) := pg_cnt_any (b := m) hR (by omega) (by omega)
  refine ys_findWays hW hP hE hs (fun wa hw => ⟨m + 1, ?_⟩)
  refine ys_ft_9 hW hP hE hs (fun me hM => ⟨61, ?_⟩) (m + 1) 0 me (by omega) (by omega) (fun b hb => by omega)
  rw [en]
  have hl := pg_tn_le (R := pg_op ins uu (st s))
  exact ys_ft_57 (L := pg_ld ins uu ll (st s)) hm hR (fun a b c => pg_ld_t) hw (fun me xt hx => k me xt wa hw hx) 61 0 me xt (by omega) (by omega) hM (fun j hj => by omega)
end
end
section
/-! Y: new patches, sets, needs -/
theorem pg_SY_gv {m : Nat} {st : Nat → Nat → Bool} {se : Nat → Int32} {t i : Nat} (hm : m ≤ 60) (hi : i < 60) (h : pg_SY m st se) : pg_SY m (pg_gv st t i) (upd se (60 * t + i) (pg_b true)) := by
  intro s hs p hp
  by_cases c : s = t
  · subst c
    rw [pg_gv_s]
    by_cases d : p = i
    · subst d
      rw [pk_us, pg_ad_s]
    · rw [pk_un (by omega), pg_ad_n _ d]
      exact h s hs p hp
  · rw [pg_gv_n _ _ c, pk_un (by omega)]
    exact h s hs p hp
section
variable {m : Nat} {ins : Nat → Bool} {uu ll : Nat → Option Nat} {st : Nat → Nat → Bool} {ct : Nat → Int32} {yl ol : Int32} {us ls cy se me pl xt ot : Nat → Int32} {wa : Nat → Int64} {s t : Nat} {b : Bool} {o1 o2 : Option Nat}
theorem ys_make_46 {post : Int32 → SY → Prop} (hm : m < 60) (hs : s < 3) (k : ∀ se, (∀ t, t < 3 → ∀ p, p < m → se (60 * t + p) = pg_b (st t p)) → (∀ t, t < 3 → se (60 * t + m) = pg_b (decide (t = s))) → post (nI m) (nI (m + 1), yl, ol, us, ls, cy, se, me, pl, xt, ot, wa)) : ∀ (n i : Nat) (se : Nat → Int32), i ≤ 3 → 3 < n + i → (∀ t, t < 3 → ∀ p, p < m → se (60 * t + p) = pg_b (st t p)) → (∀ t, t < i → se (60 * t + m) = pg_b (decide (t = s))) → wY_make_46 post (nI s) (nI m) yl ol n (nI i) us ls cy se me pl xt ot wa := by
  intro n
  induction n with
  | zero => intro i se h1 h2; omega
  | succ n ih =>
    intro i se h1 h2 ha hb
    refine pk_le 3 i (fun h => ?_) (fun h => ?_)
    · refine nm_r (nI_1 m) ?_
      rw [nI_pred]
      exact k se ha (fun t ht => hb t (by omega))
    · refine pk_eq i s (fun e => And.intro (pg_in180 h hm) ?_) (fun e => And.intro (pg_in180 h hm) ?_)
      · rw [pg_c180 h hm, pg_vn1]
        refine nm_e (nm_r (nI_1 i) (ih (i + 1) _ (by omega) (by omega) (fun t ht p hp => ?_) (fun t ht => ?_)))
        · rw [pk_un (by omega)]
          exact ha t ht p hp
        · by_cases c : t = i
          · rw [c, pk_us, decide_eq_true e]
          · rw [pk_un (by omega)]
            exact hb t (by omega)
      · rw [pg_c180 h hm, pg_vn0]
        refine nm_e (nm_r (nI_1 i) (ih (i + 1) _ (by omega) (by omega) (fun t ht p hp => ?_) (fun t ht => ?_)))
        · rw [pk_un (by omega)]
          exact ha t ht p hp
        · by_cases c : t = i
          · rw [c, pk_us, decide_eq_false e]
          · rw [pk_un (by omega)]
            exact hb t (by omega)
theorem ys_makeF {post : Int32 → SY → Prop} {x y z w : Int32} (hm : m = 60) (k : post (-1000000002) (nI m, yl, ol, us, ls, cy, se, me, pl, xt, ot, wa)) : wpY_make post (nI m, yl, ol, us, ls, cy, se, me, pl, xt, ot, wa) x y z w := by
  subst hm
  exact br_t rfl k
theorem ys_make {post : Int32 → SY → Prop} {c : Int32} (hW : pg_WF m ins uu ll st) (hY : pg_RY m ins uu ll st ct (nI m, yl, ol, us, ls, cy, se, me, pl, xt, ot, wa)) (hs : s < 3) (hm : m < 60) (k : ∀ v', pg_RY (m + 1) (pg_fu ins m b) (pg_fu uu m o1) (pg_fu ll m o2) (pg_gv st s m) (upd ct m c) v' → post (nI m) v') : wpY_make post (nI m, yl, ol, us, ls, cy, se, me, pl, xt, ot, wa) (nI s) (pg_o o1) (if b = true then pg_o o2 else -2) c := by
  obtain ⟨_, hc, hP, hE⟩ := hY
  subst hc
  have hi := pg_in60 hm
  refine br_f (fun h => by have := (nI_eq (a := m) (b := 60) (by omega) (by omega)).mp h; omega) (And.intro hi ?_)
  rw [pg_c (by omega)]
  refine nm_e (And.intro hi (nm_e (And.intro hi (nm_e ⟨4, ?_⟩))))
  refine ys_make_46 hm hs (fun se' h1 h2 => ?_) 4 0 se (by omega) (by omega) (fun t ht p hp => hE t ht p hp) (fun t ht => by omega)
  refine k _ ⟨rfl, rfl, fun p hp => ?_, fun t ht p hp => ?_⟩
  · by_cases e : p = m
    · subst e
      unfold pg_lw
      rw [pk_us, pk_us, pg_fu_s, pg_fu_s, pg_fu_s]
      exact ⟨rfl, rfl⟩
    · unfold pg_lw
      rw [pk_un e, pk_un e, pg_fu_n e, pg_fu_n e, pg_fu_n e]
      exact hP p (by omega)
  · by_cases e : p = m
    · subst e
      rw [h2 t ht]
      by_cases d : t = s
      · subst d
        rw [pg_gv_s, pg_ad_s, decide_eq_true rfl]
      · rw [pg_gv_n _ _ d, decide_eq_false d]
        cases z : st t p with
        | false => rfl
        | true => have := (hW.2 t ht p z).1; omega
    · rw [h1 t ht p (by omega)]
      by_cases d : t = s
      · subst d
        rw [pg_gv_s, pg_ad_n _ e]
      · rw [pg_gv_n _ _ d]
theorem ys_pull_29 {post : Int32 → SY → Prop} (hm : m ≤ 60) (hs : s < 3) (ht : t < 3) (hst : s ≠ t) (hY : ∀ q, st s q = true → q < m) (k : ∀ se, pg_SY m (pg_un st t (st s)) se → post (nI (pg_cnt (fun q => st s q && !st t q) m)) (nI m, yl, ol, us, ls, cy, se, me, pl, xt, ot, wa)) : ∀ (n i : Nat) (se : Nat → Int32), i ≤ m → m < n + i → pg_SY m (pg_mg st t (st s) i) se → wY_pull_29 post (nI s) (nI t) (nI m) yl ol n (nI (pg_cnt (fun q => st s q && !st t q) i)) (nI i) us ls cy se me pl xt ot wa := by
  intro n
  induction n with
  | zero => intro i se h1 h2; omega
  | succ n ih =>
    intro i se h1 h2 hE
    refine pk_le m i (fun h => ?_) (fun h => ?_)
    · have e : i = m := by omega
      subst e
      rw [pg_mg_m hY] at hE
      exact k se hE
    · refine ys_hasIt hm hE hs h ?_
      rw [pg_mg_n hst]
      refine pg_br (fun e => ?_) (fun e => ys_hasIt hm hE ht h ?_)
      · have ez : (fun q => st s q && !st t q) i = false := by show (st s i && !st t i) = false; rw [e]; rfl
        rw [← pg_cnt_f ez]
        rw [← pg_mg_k (Or.inl e)] at hE
        exact nm_r (nI_1 i) (ih (i + 1) se (by omega) (by omega) hE)
      · rw [pg_mg_s, decide_eq_false (Nat.lt_irrefl i), Bool.false_and, Bool.or_false]
        refine pg_br (fun e2 => And.intro (pg_in180 ht (by omega)) ?_) (fun e2 => ?_)
        · have ez : (fun q => st s q && !st t q) i = true := by show (st s i && !st t i) = true; rw [e, e2]; rfl
          rw [pg_c180 ht (by omega), pg_vn1]
          have hE' := pg_SY_gv (t := t) (i := i) hm (by omega) hE
          rw [pg_mg_a e] at hE'
          have z := ih (i + 1) _ (by omega) (by omega) hE'
          rw [pg_cnt_t ez] at z
          exact nm_e (nm_r (nI_1 _) (nm_r (nI_1 i) z))
        · have ez : (fun q => st s q && !st t q) i = false := by show (st s i && !st t i) = false; rw [e2]; simp
          rw [← pg_cnt_f ez]
          rw [← pg_mg_k (Or.inr e2)] at hE
          exact nm_r (nI_1 i) (ih (i + 1) se (by omega) (by omega) hE)
theorem ys_pick_32 {post : Int32 → SY → Prop} {Y : Nat → Bool} (hm : m ≤ 60) (ht : t < 3) (hY : ∀ q, Y q = true → q < m) (hM : ∀ q, q < m → me q = pg_b (Y q)) (k : ∀ se, pg_SY m (pg_un st t Y) se → post (nI (pg_cnt (fun q => Y q && !st t q) m)) (nI m, yl, ol, us, ls, cy, se, me, pl, xt, ot, wa)) : ∀ (n i : Nat) (se : Nat → Int32), i ≤ m → m < n + i → pg_SY m (pg_mg st t Y i) se → wY_pick_32 post (nI t) (nI m) yl ol n (nI (pg_cnt (fun q => Y q && !st t q) i)) (nI i) us ls cy se me pl xt ot wa := by
  intro n
  induction n with
  | zero => intro i se h1 h2; omega
  | succ n ih =>
    intro i se h1 h2 hE
    refine pk_le m i (fun h => ?_) (fun h => And.intro (pg_in60 (by omega)) ?_)
    · have e : i = m := by omega
      subst e
      rw [pg_mg_m hY] at hE
      exact k se hE
    · rw [pg_c (by omega), hM i h]
      refine pg_br (fun e => ?_) (fun e => ys_hasIt hm hE ht h ?_)
      · have ez : (fun q => Y q && !st t q) i = false := by show (Y i && !st t i) = false; rw [e]; rfl
        rw [← pg_cnt_f ez]
        rw [← pg_mg_k (Or.inl e)] at hE
        exact nm_r (nI_1 i) (ih (i + 1) se (by omega) (by omega) hE)
      · rw [pg_mg_s, decide_eq_false (Nat.lt_irrefl i), Bool.false_and, Bool.or_false]
        refine pg_br (fun e2 => And.intro (pg_in180 ht (by omega)) ?_) (fun e2 => ?_)
        · have ez : (fun q => Y q && !st t q) i = true := by show (Y i && !st t i) = true; rw [e, e2]; rfl
          rw [pg_c180 ht (by omega), pg_vn1]
          have hE' := pg_SY_gv (t := t) (i := i) hm (by omega) hE
          rw [pg_mg_a e] at hE'
          have z := ih (i + 1) _ (by omega) (by omega) hE'
          rw [pg_cnt_t ez] at z
          exact nm_e (nm_r (nI_1 _) (nm_r (nI_1 i) z))
        · have ez : (fun q => Y q && !st t q) i = false := by show (Y i && !st t i) = false; rw [e2]; simp
          rw [← pg_cnt_f ez]
          rw [← pg_mg_k (Or.inr e2)] at hE
          exact nm_r (nI_1 i) (ih (i + 1) se (by omega) (by omega) hE)
end
/-! gather: the pile -/
def pg_on (l : Nat) (pl : Nat → Int32) (r : Nat) : Prop := ∃ j, j < l ∧ pl j = nI r
def pg_GI (m p : Nat) (uu ll : Nat → Option Nat) (l : Nat) (pl : Nat → Int32) (M : Nat → Bool) (X : Nat → Nat → Prop) : Prop := (∀ j, j < l → ∃ r, r < m ∧ pl j = nI r ∧ pg_wn uu ll (some p) r = true) ∧ (∀ q, M q = true → q < m ∧ pg_wn uu ll (some p) q = true) ∧ (∀ q r, M q = true → pg_D uu ll q r → M r = true ∨ pg_on l pl r ∨ X q r) ∧ (M p = true ∨ pg_on l pl p)
theorem pg_wn_D {uu ll : Nat → Option Nat} {p q r : Nat} (h : pg_wn uu ll (some p) q = true) (d : pg_D uu ll q r) : pg_wn uu ll (some p) r = true := by
  have z : (pg_nd uu ll p q || decide (q = p)) = true := h
  show (pg_nd uu ll p r || decide (r = p)) = true
  rw [Bool.or_eq_true, decide_eq_true_eq] at z
  rw [Bool.or_eq_true]
  left
  rcases z with z | z
  · exact pg_B_t.mpr (pg_cl_t (pg_B_t.mp z) (pg_cl_b d))
  · subst z
    exact pg_B_t.mpr (pg_cl_b d)
section
variable {m p : Nat} {uu ll : Nat → Option Nat} {l : Nat} {pl : Nat → Int32} {M : Nat → Bool} {X X' : Nat → Nat → Prop}
theorem pg_on_up {r x : Nat} (h : pg_on l pl r) : pg_on (l + 1) (upd pl l (nI x)) r := by
  obtain ⟨j, h1, h2⟩ := h
  exact ⟨j, by omega, by rw [pk_un (by omega)]; exact h2⟩
theorem pg_GI_push {r : Nat} (h : pg_GI m p uu ll l pl M X) (hr : r < m) (hn : pg_wn uu ll (some p) r = true) (hX : ∀ a b, X a b → X' a b ∨ b = r) : pg_GI m p uu ll (l + 1) (upd pl l (nI r)) M X' := by
  obtain ⟨h1, h2, h3, h4⟩ := h
  have top : pg_on (l + 1) (upd pl l (nI r)) r := ⟨l, by omega, pk_us⟩
  refine ⟨fun j hj => ?_, h2, fun q x hq d => ?_, ?_⟩
  · by_cases c : j = l
    · subst c
      exact ⟨r, hr, pk_us, hn⟩
    · rw [pk_un c]
      exact h1 j (by omega)
  · rcases h3 q x hq d with z | z | z
    · exact Or.inl z
    · exact Or.inr (Or.inl (pg_on_up z))
    · rcases hX q x z with y | y
      · exact Or.inr (Or.inr y)
      · subst y
        exact Or.inr (Or.inl top)
  · rcases h4 with z | z
    · exact Or.inl z
    · exact Or.inr (pg_on_up z)
theorem pg_GI_w (h : pg_GI m p uu ll l pl M X) (hX : ∀ a b, X a b → X' a b) : pg_GI m p uu ll l pl M X' := by
  obtain ⟨h1, h2, h3, h4⟩ := h
  refine ⟨h1, h2, fun q x hq d => ?_, h4⟩
  rcases h3 q x hq d with z | z | z
  · exact Or.inl z
  · exact Or.inr (Or.inl z)
  · exact Or.inr (Or.inr (hX q x z))
/-- the top is taken off and marked -/
theorem pg_on_dn {q r : Nat} (h : pg_on (l + 1) pl r) (hq : pl l = nI q) (h1 : q < 60) (h2 : r < 60) : pg_on l pl r ∨ r = q := by
  obtain ⟨j, j1, j2⟩ := h
  by_cases c : j = l
  · subst c
    right
    exact (nI_eq (by omega) (by omega)).mp (j2.symm.trans hq)
  · exact Or.inl ⟨j, by omega, j2⟩
theorem pg_GI_mark {ins : Nat → Bool} {q : Nat} (hW : pg_WP m ins uu ll) (hp : p < m) (h : pg_GI m p uu ll (l + 1) pl M (fun _ _ => False)) (hq : pl l = nI q) (hqm : q < m) (hn : pg_wn uu ll (some p) q = true) : pg_GI m p uu ll l pl (pg_ad M q) (fun a r => a = q ∧ pg_D uu ll q r) := by
  have hm := hW.1
  obtain ⟨h1, h2, h3, h4⟩ := h
  refine ⟨fun j hj => h1 j (by omega), fun x hx => ?_, fun x r hx d => ?_, ?_⟩
  · rcases pg_ad_i hx with z | z
    · exact h2 x z
    · subst z
      exact ⟨hqm, hn⟩
  · rcases pg_ad_i hx with z | z
    · have hxm := (h2 x z).1
      have hr := pg_D_lt hW hxm d
      rcases h3 x r z d with y | y | y
      · exact Or.inl (pg_ad_t y)
      · rcases pg_on_dn y hq (by omega) (by omega) with w | w
        · exact Or.inr (Or.inl w)
        · subst w
          exact Or.inl (pg_ad_s M r)
      · exact y.elim
    · subst z
      exact Or.inr (Or.inr ⟨rfl, d⟩)
  · rcases h4 with z | z
    · exact Or.inl (pg_ad_t z)
    · rcases pg_on_dn z hq (by omega) (by omega) with w | w
      · exact Or.inr w
      · subst w
        exact Or.inl (pg_ad_s M p)
theorem pg_GI_pop {ins : Nat → Bool} {q : Nat} (hW : pg_WP m ins uu ll) (hp : p < m) (h : pg_GI m p uu ll (l + 1) pl M (fun _ _ => False)) (hq : pl l = nI q) (hqm : q < m) (ht : M q = true) : pg_GI m p uu ll l pl M (fun _ _ => False) := by
  have hm := hW.1
  obtain ⟨h1, h2, h3, h4⟩ := h
  refine ⟨fun j hj => h1 j (by omega), h2, fun x r hx d => ?_, ?_⟩
  · have hxm := (h2 x hx).1
    have hr := pg_D_lt hW hxm d
    rcases h3 x r hx d with y | y | y
    · exact Or.inl y
    · rcases pg_on_dn y hq (by omega) (by omega) with w | w
      · exact Or.inr (Or.inl w)
      · subst w
        exact Or.inl ht
    · exact y.elim
  · rcases h4 with z | z
    · exact Or.inl z
    · rcases pg_on_dn z hq (by omega) (by omega) with w | w
      · exact Or.inr w
      · subst w
        exact Or.inl ht
theorem pg_GI_end (h : pg_GI m p uu ll 0 pl M (fun _ _ => False)) (q : Nat) : M q = pg_wn uu ll (some p) q := by
  obtain ⟨h1, h2, h3, h4⟩ := h
  have no : ∀ r, ¬ pg_on 0 pl r := by
    rintro r ⟨j, hj, _⟩
    omega
  have hp : M p = true := h4.resolve_right (no p)
  refine pg_beq ⟨fun z => (h2 q z).2, fun z => ?_⟩
  have y : (pg_nd uu ll p q || decide (q = p)) = true := z
  rw [Bool.or_eq_true, decide_eq_true_eq] at y
  rcases y with y | y
  · refine (pg_B_t.mp y) (fun a b => M a = true → M b = true) (fun a b d ha => ?_) (fun a b c k1 k2 ha => k2 (k1 ha)) hp
    exact (h3 a b ha d).resolve_right (fun w => w.elim (no b) id)
  · rw [y]; exact hp
end
section
variable {m : Nat} {ins : Nat → Bool} {uu ll : Nat → Option Nat} {st : Nat → Nat → Bool} {ct : Nat → Int32} {yl ol : Int32} {us ls cy se me pl xt ot : Nat → Int32} {wa : Nat → Int64} {s t : Nat} {p : Nat}
theorem pg_lwc (hW : pg_WP m ins uu ll) {q : Nat} (hq : q < m) : (ll q = none ∧ pg_lw ins ll q < 0) ∨ ∃ r, ll q = some r ∧ r < q ∧ pg_lw ins ll q = nI r := by
  have w := (hW.2 q hq).2
  unfold pg_lw
  cases e : ins q with
  | false =>
    rw [if_neg (by decide)]
    exact Or.inl ⟨(w.2 e).1, by decide⟩
  | true =>
    rw [if_pos rfl]
    cases e2 : ll q with
    | none => exact Or.inl ⟨rfl, by decide⟩
    | some r => exact Or.inr ⟨r, rfl, (w.1 r e2).1, rfl⟩
theorem ys_ga_32 {post : SY → Prop} (hW : pg_WP m ins uu ll) (hP : pg_PY m ins uu ll us ls) (hp : p < m) (k : ∀ me pl, (∀ q, q < m → me q = pg_b (pg_wn uu ll (some p) q)) → post (nI m, yl, ol, us, ls, cy, se, me, pl, xt, ot, wa)) : ∀ (n l : Nat) (pl me : Nat → Int32) (M : Nat → Bool), pg_GI m p uu ll l pl M (fun _ _ => False) → (∀ q, q < m → me q = pg_b (M q)) → l ≤ 1 + pg_cnt M m → 2 * (m - pg_cnt M m) + l < n → wY_gather_32 post (nI m) yl ol n (nI l) us ls cy se me pl xt ot wa := by
  have hm := hW.1
  intro n
  induction n with
  | zero => intro l pl me M _ _ _ h; omega
  | succ n ih =>
    intro l pl me M hG hM hl hn
    have hc := pg_cnt_le M m
    cases l with
    | zero =>
      refine br_t (by decide) (k me pl (fun q hq => ?_))
      rw [hM q hq, pg_GI_end hG q]
    | succ l =>
      obtain ⟨q, hq, eq, wq⟩ := hG.1 l (by omega)
      have hqi := pg_in60 (s := q) (by omega)
      have hu : ∀ r, uu q = some r → r < q := fun r z => ((hW.2 q hq).1 r z).1
      refine br_f (nI_nle (by omega) (by omega)) (nm_r (pk_m1 l) (And.intro (vp_in_nI (by omega) (by omega)) ?_))
      rw [pg_c (by omega), eq]
      refine nm_e (And.intro hqi ?_)
      rw [pg_c (by omega), hM q hq, (hP q hq).1]
      refine pg_br (fun e => And.intro hqi ?_) (fun e => ?_)
      · have hG1 := pg_GI_mark hW hp hG eq hq wq
        have hcn : pg_cnt (pg_ad M q) m = pg_cnt M m + 1 := pg_cnt_set hq (fun i hi => pg_ad_n M hi) e (pg_ad_s M q)
        have hcl := pg_cnt_le (pg_ad M q) m
        have hM1 : ∀ a, a < m → upd me q (pg_b true) a = pg_b (pg_ad M q a) := fun a ha => by
          by_cases c : a = q
          · rw [c, pk_us, pg_ad_s]
          · rw [pk_un c, pg_ad_n _ c]
            exact hM a ha
        rw [pg_vn1]
        refine nm_e (And.intro hqi ?_)
        have low : ∀ (l1 : Nat) (pl1 : Nat → Int32), l1 ≤ l + 1 → pg_GI m p uu ll l1 pl1 (pg_ad M q) (fun a r => a = q ∧ ll q = some r) → wY_gather_86 post (wY_gather_32 post (nI m) yl ol n) (nI l1) (nI q) (nI m) yl ol us ls cy se (upd me q (pg_b true)) pl1 xt ot wa := by
          intro l1 pl1 hl1 hG2
          refine And.intro hqi ?_
          rw [pg_c (by omega), (hP q hq).2]
          rcases pg_lwc hW hq with ⟨z1, z2⟩ | ⟨r, z1, z2, z3⟩
          · refine br_t z2 (ih l1 pl1 _ (pg_ad M q) (pg_GI_w hG2 (fun a r y => ?_)) hM1 (by omega) (by omega))
            rw [z1] at y
            cases y.2
          · rw [z3]
            refine br_f (nI_pos (by omega)) (And.intro hqi (And.intro (vp_in_nI (by omega) (by omega)) ?_))
            rw [pg_c (by omega)]
            refine nm_e (nm_r (nI_1 l1) (ih (l1 + 1) _ _ (pg_ad M q) (pg_GI_push hG2 (by omega) (pg_wn_D wq (Or.inr z1)) (fun a y w => ?_)) hM1 (by omega) (by omega)))
            right
            rw [z1] at w
            exact (Option.some.inj w.2).symm
        refine pg_bo0 (fun r z => by have := hu r z; omega) (fun z => ?_) (fun r z => And.intro hqi (And.intro (vp_in_nI (by omega) (by omega)) ?_))
        · refine low l pl (by omega) (pg_GI_w hG1 (fun a r y => ⟨y.1, ?_⟩))
          rcases y.2 with y | y
          · rw [z] at y; cases y
          · exact y
        · have hr := hu r z
          rw [z]
          refine nm_e (nm_r (nI_1 l) (low (l + 1) _ (by omega) (pg_GI_push hG1 (by omega) (pg_wn_D wq (Or.inl z)) (fun a y w => ?_))))
          rcases w.2 with w2 | w2
          · right
            rw [z] at w2
            exact (Option.some.inj w2).symm
          · exact Or.inl ⟨w.1, w2⟩
      · exact ih l pl me M (pg_GI_pop hW hp hG eq hq e) hM (by omega) (by omega)
theorem ys_ga_2 {post : SY → Prop} {x1 : Int32} (hm : m ≤ 60) (k : ∀ me, (∀ q, q < m → me q = pg_b false) → ∃ n32, wY_gather_32 post (nI m) yl ol n32 1 us ls cy se me (upd pl 0 x1) xt ot wa) : ∀ (n i : Nat) (me : Nat → Int32), i ≤ m → m < n + i → (∀ q, q < i → me q = pg_b false) → wY_gather_2 post x1 (nI m) yl ol n (nI i) us ls cy se me pl xt ot wa := by
  intro n
  induction n with
  | zero => intro i me h1 h2; omega
  | succ n ih =>
    intro i me h1 h2 hM
    refine pk_le m i (fun h => ?_) (fun h => And.intro (pg_in60 (by omega)) ?_)
    · exact nm_e (k me (fun q hq => hM q (by omega)))
    · rw [pg_c (by omega), pg_vn0]
      refine nm_e (nm_r (nI_1 i) (ih (i + 1) _ (by omega) (by omega) (fun q hq => ?_)))
      by_cases c : q = i
      · rw [c, pk_us]
      · rw [pk_un c]
        exact hM q (by omega)
theorem ys_gather {post : SY → Prop} (hW : pg_WP m ins uu ll) (hP : pg_PY m ins uu ll us ls) (hp : p < m) (k : ∀ me pl, (∀ q, q < m → me q = pg_b (pg_wn uu ll (some p) q)) → post (nI m, yl, ol, us, ls, cy, se, me, pl, xt, ot, wa)) : wpY_gather post (nI m, yl, ol, us, ls, cy, se, me, pl, xt, ot, wa) (nI p) := by
  have hm := hW.1
  refine ⟨m + 1, ys_ga_2 hm (fun me hM => ⟨2 * m + 2, ?_⟩) (m + 1) 0 me (by omega) (by omega) (fun q hq => by omega)⟩
  have hz : pg_cnt (fun _ => false) m = 0 := pg_cnt_ext (m := 0) (Nat.zero_le _) (fun _ _ => rfl)
  refine ys_ga_32 hW hP hp k (2 * m + 2) 1 (upd pl 0 (nI p)) me (fun _ => false) ⟨fun j hj => ?_, fun q hq => (by cases hq), fun q r hq => (by cases hq), Or.inr ⟨0, by omega, pk_us⟩⟩ hM (by omega) (by omega)
  have e : j = 0 := by omega
  subst e
  refine ⟨p, hp, pk_us, ?_⟩
  show (pg_nd uu ll p p || decide (p = p)) = true
  rw [decide_eq_true rfl, Bool.or_true]
theorem ys_isNeeded_2 {post : Int32 → Prop} (hW : pg_WF m ins uu ll st) (hP : pg_PY m ins uu ll us ls) (hE : pg_SY m st se) (hs : s < 3) (hp : p < m) (k : post (pg_b (pg_ne uu ll (st s) p))) : ∀ (n i : Nat), i ≤ m → m < n + i → (∀ q, q < i → st s q = true → ¬ pg_D uu ll q p) → wY_isNeeded_2 post (nI s) (nI p) (nI m) yl ol us ls cy se me pl xt ot wa n (nI i) := by
  have hm := hW.1.1
  have ne : pg_ne uu ll (st s) p = pg_B (∃ q, st s q = true ∧ pg_D uu ll q p) := pg_B_c (pg_nd_next (hW.2 s hs) p)
  rw [ne] at k
  intro n
  induction n with
  | zero => intro i h1 h2; omega
  | succ n ih =>
    intro i h1 h2 hn
    have nxt : (st s i = true → ¬ pg_D uu ll i p) → ∀ q, q < i + 1 → st s q = true → ¬ pg_D uu ll q p := by
      intro h q hq
      by_cases c : q = i
      · rw [c]; exact h
      · exact hn q (by omega)
    refine pk_le m i (fun h => ?_) (fun h => ?_)
    · have e : pg_B (∃ q, st s q = true ∧ pg_D uu ll q p) = false := by
        rw [pg_B_f]
        rintro ⟨q, h3, h4⟩
        exact hn q (by have := (hW.2 s hs q h3).1; omega) h3 h4
      rw [e] at k
      exact k
    · have yes : st s i = true → pg_D uu ll i p → post 1 := by
        intro h3 h4
        have e : pg_B (∃ q, st s q = true ∧ pg_D uu ll q p) = true := pg_B_t.mpr ⟨i, h3, h4⟩
        rw [e] at k
        exact k
      refine ys_hasIt hm hE hs h ?_
      refine pg_br (fun e => ?_) (fun e => And.intro (pg_in60 (by omega)) ?_)
      · exact nm_r (nI_1 i) (ih (i + 1) (by omega) (by omega) (nxt (fun z => by rw [e] at z; cases z)))
      · rw [pg_c (by omega), (hP i h).1, (hP i h).2]
        refine pg_if (pg_o_eq (fun q z => by have := ((hW.1.2 i h).1 q z).1; omega) (by omega)) (fun e2 => yes e (Or.inl e2)) (fun e2 => And.intro (pg_in60 (by omega)) ?_)
        have lw : pg_lw ins ll i = nI p ↔ ll i = some p := by
          rcases pg_lwc hW.1 h with ⟨z1, z2⟩ | ⟨r, z1, z2, z3⟩
          · constructor
            · intro z
              rw [z] at z2
              exact absurd z2 (nI_pos (by omega))
            · intro z
              rw [z1] at z; cases z
          · rw [z3, z1, nI_eq (by omega) (by omega)]
            exact ⟨fun z => by rw [z], fun z => Option.some.inj z⟩
        refine pg_if lw (fun e3 => yes e (Or.inr e3)) (fun e3 => ?_)
        exact nm_r (nI_1 i) (ih (i + 1) (by omega) (by omega) (nxt (fun _ z => z.elim e2 e3)))
theorem ys_isNeeded {post : Int32 → Prop} (hW : pg_WF m ins uu ll st) (hP : pg_PY m ins uu ll us ls) (hE : pg_SY m st se) (hs : s < 3) (hp : p < m) (k : post (pg_b (pg_ne uu ll (st s) p))) : wpY_isNeeded post (nI m, yl, ol, us, ls, cy, se, me, pl, xt, ot, wa) (nI s) (nI p) :=
  ⟨m + 1, ys_isNeeded_2 hW hP hE hs hp k (m + 1) 0 (by omega) (by omega) (fun q hq => by omega)⟩
theorem ys_count_4 {post : Int32 → Prop} (hm : m ≤ 60) (hE : pg_SY m st se) (hs : s < 3) (k : post (nI (pg_cnt (st s) m))) : ∀ (n i : Nat), i ≤ m → m < n + i → wY_count_4 post (nI s) (nI m) yl ol us ls cy se me pl xt ot wa n (nI (pg_cnt (st s) i)) (nI i) := by
  intro n
  induction n with
  | zero => intro i h1 h2; omega
  | succ n ih =>
    intro i h1 h2
    refine pk_le m i (fun h => ?_) (fun h => ys_hasIt hm hE hs h ?_)
    · have e : i = m := by omega
      subst e
      exact k
    · have z := ih (i + 1) (by omega) (by omega)
      refine pg_br (fun e => ?_) (fun e => ?_)
      · rw [pg_cnt_f e] at z
        exact nm_r (nI_1 i) z
      · rw [pg_cnt_t e] at z
        exact nm_r (nI_1 _) (nm_r (nI_1 i) z)
theorem ys_count {post : Int32 → Prop} (hm : m ≤ 60) (hE : pg_SY m st se) (hs : s < 3) (k : post (nI (pg_cnt (st s) m))) : wpY_count post (nI m, yl, ol, us, ls, cy, se, me, pl, xt, ot, wa) (nI s) :=
  ⟨m + 1, ys_count_4 hm hE hs k (m + 1) 0 (by omega) (by omega)⟩
theorem pg_pd_1 (a : Nat) : pg_pd a + 1 = pg_pd (a + 1) := by
  cases a with
  | zero => rfl
  | succ a => exact nI_1 a
theorem ys_needed_20 {post : Int32 → SY → Prop} {Y : Nat → Bool} (hm : m ≤ 60) (hM : ∀ q, q < m → me q = pg_b (Y q)) (k : post (pg_pd (pg_cnt Y m)) (nI m, yl, ol, us, ls, cy, se, me, pl, xt, ot, wa)) : ∀ (n i : Nat), i ≤ m → m < n + i → wY_needed_20 post (nI m) yl ol us ls cy se me pl xt ot wa n (pg_pd (pg_cnt Y i)) (nI i) := by
  intro n
  induction n with
  | zero => intro i h1 h2; omega
  | succ n ih =>
    intro i h1 h2
    refine pk_le m i (fun h => ?_) (fun h => And.intro (pg_in60 (by omega)) ?_)
    · have e : i = m := by omega
      subst e
      exact k
    · have z := ih (i + 1) (by omega) (by omega)
      rw [pg_c (by omega), hM i h]
      refine pg_br (fun e => ?_) (fun e => ?_)
      · rw [pg_cnt_f e] at z
        exact nm_r (nI_1 i) z
      · rw [pg_cnt_t e] at z
        exact nm_r (pg_pd_1 _) (nm_r (nI_1 i) z)
theorem ys_loose_15 {post : Int32 → Prop} (hW : pg_WF m ins uu ll st) (hP : pg_PY m ins uu ll us ls) (hE : pg_SY m st se) (hs : s < 3) (k : post (nI (pg_cnt (fun q => st s q && !pg_ne uu ll (st s) q) m))) : ∀ (n i : Nat), i ≤ m → m < n + i → wY_loose_15 post (nI s) (nI m) yl ol us ls cy se me pl xt ot wa n (nI (pg_cnt (fun q => st s q && !pg_ne uu ll (st s) q) i)) (nI i) := by
  have hm := hW.1.1
  intro n
  induction n with
  | zero => intro i h1 h2; omega
  | succ n ih =>
    intro i h1 h2
    refine pk_le m i (fun h => ?_) (fun h => ys_hasIt hm hE hs h ?_)
    · have e : i = m := by omega
      subst e
      exact k
    · have z := ih (i + 1) (by omega) (by omega)
      refine pg_br (fun e => ?_) (fun e => ys_isNeeded hW hP hE hs h ?_)
      · rw [pg_cnt_f (by show (st s i && !pg_ne uu ll (st s) i) = false; rw [e]; rfl)] at z
        exact nm_r (nI_1 i) z
      · refine pg_br (fun e2 => ?_) (fun e2 => ?_)
        · rw [pg_cnt_t (by show (st s i && !pg_ne uu ll (st s) i) = true; rw [e, e2]; rfl)] at z
          exact nm_r (nI_1 _) (nm_r (nI_1 i) z)
        · rw [pg_cnt_f (by show (st s i && !pg_ne uu ll (st s) i) = false; rw [e, e2]; rfl)] at z
          exact nm_r (nI_1 i) z
end
end
section
/-! pairs of lines, equal texts -/
def pg_q (rg : Bool) (L : Nat → Nat → Bool) (a b : Nat) : Bool := !decide (a = b) && (if rg = true then (L a b && L b a) else (L a b == L b a))
theorem pg_q_s (rg : Bool) (L : Nat → Nat → Bool) (a b : Nat) : pg_q rg L a b = pg_q rg L b a := by
  unfold pg_q
  rw [decide_eq_decide.mpr (show a = b ↔ b = a from ⟨Eq.symm, Eq.symm⟩), Bool.and_comm (x := L a b), Bool.beq_comm (a := L a b)]
theorem pg_q_0 (rg : Bool) (L : Nat → Nat → Bool) (a : Nat) : pg_q rg L a a = false := by
  unfold pg_q
  rw [decide_eq_true rfl]
  rfl
noncomputable def pg_tr (rg : Bool) (R : Nat → Bool) (L : Nat → Nat → Bool) (n : Nat) : Nat := pg_sm (fun i => pg_cnt (fun j => pg_q rg L (pg_tt R L i) (pg_tt R L j)) i) n
theorem pg_beqb {x y : Bool} : pg_b x = pg_b y ↔ x = y := by cases x <;> cases y <;> decide
section
variable {m : Nat} {ins : Nat → Bool} {uu ll : Nat → Option Nat} {st : Nat → Nat → Bool} {ct : Nat → Int32} {yl ol : Int32} {us ls cy se me pl xt ot : Nat → Int32} {wa : Nat → Int64} {s t : Nat} {R : Nat → Bool} {L : Nat → Nat → Bool} {rg : Bool}
theorem ys_cp_22 {post : Int32 → SY → Prop} {J : Int32 → Int32 → Prop} {i c : Nat} (hR : ∀ a, R a = true → a < 60) (hT : ∀ a b c, L a b = true → L b c = true → L a c = true) (hL : ∀ p, R p = true → ∀ c, pg_tb (wa p) c = L p c) (hx : ∀ j, j < pg_tn R → xt j = nI (pg_tt R L j)) (hi : i < pg_tn R) (hJ : J (nI (c + pg_cnt (fun j => pg_q rg L (pg_tt R L i) (pg_tt R L j)) i)) (nI (i + 1))) : ∀ (n j : Nat), j ≤ i → i < n + j → wY_countPairs_22 post J (pg_b rg) (nI i) (nI m) yl ol us ls cy se me pl xt ot wa n (nI (c + pg_cnt (fun j => pg_q rg L (pg_tt R L i) (pg_tt R L j)) j)) (nI j) := by
  have hl := pg_tn_le (R := R)
  intro n
  induction n with
  | zero => intro j h1 h2; omega
  | succ n ih =>
    intro j h1 h2
    refine pk_le i j (fun h => ?_) (fun h => ?_)
    · have e : j = i := by omega
      subst e
      exact nm_r (nI_1 j) hJ
    · have r1 := pg_tt_in hR hT hi
      have r2 := pg_tt_in hR hT (k := j) (by omega)
      have b1 := hR _ r1
      have b2 := hR _ r2
      have ne := pg_tt_inj hR hT h hi
      have ii := pg_in60 (s := i) (by omega)
      have ij := pg_in60 (s := j) (by omega)
      have z := ih (j + 1) (by omega) (by omega)
      have yes : (if rg = true then (L (pg_tt R L i) (pg_tt R L j) && L (pg_tt R L j) (pg_tt R L i)) else (L (pg_tt R L i) (pg_tt R L j) == L (pg_tt R L j) (pg_tt R L i))) = true → wY_countPairs_22 post J (pg_b rg) (nI i) (nI m) yl ol us ls cy se me pl xt ot wa n (nI (c + pg_cnt (fun j => pg_q rg L (pg_tt R L i) (pg_tt R L j)) j + 1)) (nI (j + 1)) := by
        intro e
        have e2 : pg_q rg L (pg_tt R L i) (pg_tt R L j) = true := by
          unfold pg_q
          rw [decide_eq_false ne, e]; rfl
        rw [pg_cnt_t (f := fun j => pg_q rg L (pg_tt R L i) (pg_tt R L j)) (n := j) e2, ← Nat.add_assoc] at z
        exact z
      have no : (if rg = true then (L (pg_tt R L i) (pg_tt R L j) && L (pg_tt R L j) (pg_tt R L i)) else (L (pg_tt R L i) (pg_tt R L j) == L (pg_tt R L j) (pg_tt R L i))) = false → wY_countPairs_22 post J (pg_b rg) (nI i) (nI m) yl ol us ls cy se me pl xt ot wa n (nI (c + pg_cnt (fun j => pg_q rg L (pg_tt R L i) (pg_tt R L j)) j)) (nI (j + 1)) := by
        intro e
        have e2 : pg_q rg L (pg_tt R L i) (pg_tt R L j) = false := by
          unfold pg_q
          rw [e, Bool.and_false]
        rw [pg_cnt_f (f := fun j => pg_q rg L (pg_tt R L i) (pg_tt R L j)) (n := j) e2] at z
        exact z
      refine And.intro ii (And.intro ij ?_)
      rw [pg_c (by omega), pg_c (by omega), hx i hi, hx j (by omega)]
      refine ys_leads b1 b2 (And.intro ij (And.intro ii (ys_leads b2 b1 ?_)))
      rw [hL _ r1, hL _ r2]
      refine pg_br (fun e => ?_) (fun e => ?_)
      · rw [e] at yes no
        rw [e]
        refine pg_if pg_beqb (fun e2 => ?_) (fun e2 => ?_)
        · exact nm_r (nI_1 _) (nm_r (nI_1 j) (yes (by rw [e2]; simp)))
        · exact nm_r (nI_1 j) (no (by simpa using e2))
      · rw [e] at yes no
        rw [e]
        refine pg_br (fun e2 => ?_) (fun e2 => ?_)
        · exact nm_r (nI_1 j) (no (by rw [e2]; simp))
        · refine pg_br (fun e3 => ?_) (fun e3 => ?_)
          · exact nm_r (nI_1 j) (no (by rw [e3]; simp))
          · exact nm_r (nI_1 _) (nm_r (nI_1 j) (yes (by rw [e2, e3]; rfl)))
theorem ys_cp_10 {post : Int32 → SY → Prop} (hR : ∀ a, R a = true → a < 60) (hT : ∀ a b c, L a b = true → L b c = true → L a c = true) (hL : ∀ p, R p = true → ∀ c, pg_tb (wa p) c = L p c) (hx : ∀ j, j < pg_tn R → xt j = nI (pg_tt R L j)) (k : post (nI (pg_tr rg R L (pg_tn R))) (nI m, nI (pg_tn R), ol, us, ls, cy, se, me, pl, xt, ot, wa)) : ∀ (n i : Nat), i ≤ pg_tn R → pg_tn R < n + i → wY_countPairs_10 post (pg_b rg) (nI m) (nI (pg_tn R)) ol us ls cy se me pl xt ot wa n (nI (pg_tr rg R L i)) (nI i) := by
  have hl := pg_tn_le (R := R)
  intro n
  induction n with
  | zero => intro i h1 h2; omega
  | succ n ih =>
    intro i h1 h2
    refine pk_le (pg_tn R) i (fun h => ?_) (fun h => ⟨i + 1, ?_⟩)
    · have e : i = pg_tn R := by omega
      rw [e]
      exact k
    · exact ys_cp_22 (c := pg_tr rg R L i) hR hT hL hx h (ih (i + 1) (by omega) (by omega)) (i + 1) 0 (by omega) (by omega)
theorem ys_agree_20 {post : Int32 → Prop} (hW : pg_WF m ins uu ll st) (hE : pg_SY m st se) (hs : s < 3) (ht : t < 3) (k : post (pg_b (pg_B (∀ p, st s p = st t p)))) : ∀ (n i : Nat), i ≤ m → m < n + i → (∀ p, p < i → st s p = st t p) → wY_agree_20 post (nI s) (nI t) (nI m) yl ol us ls cy se me pl xt ot wa n (nI i) := by
  have hm := hW.1.1
  intro n
  induction n with
  | zero => intro i h1 h2; omega
  | succ n ih =>
    intro i h1 h2 hA
    refine pk_le m i (fun h => ?_) (fun h => ys_hasIt hm hE hs h (ys_hasIt hm hE ht h ?_))
    · have e : pg_B (∀ p, st s p = st t p) = true := pg_B_t.mpr (fun p => by
        rcases Nat.lt_or_ge p i with c | c
        · exact hA p c
        · refine pg_beq ⟨fun z => ?_, fun z => ?_⟩
          · have := (hW.2 s hs p z).1; omega
          · have := (hW.2 t ht p z).1; omega)
      rw [e] at k
      exact k
    · refine pg_if pg_beqb (fun e => ?_) (fun e => ?_)
      · refine nm_r (nI_1 i) (ih (i + 1) (by omega) (by omega) (fun p hp => ?_))
        by_cases c : p = i
        · rw [c]; exact e
        · exact hA p (by omega)
      · have e2 : pg_B (∀ p, st s p = st t p) = false := pg_B_f.mpr (fun z => e (z i))
        rw [e2] at k
        exact k
/-- equal contents of two texts -/
noncomputable def pg_al (N N' : Nat) (g h : Nat → Int32) : Bool := pg_B (N = N' ∧ ∀ k, k < N' → g k = h k)
theorem ys_al_89 {post : Int32 → SY → Prop} {fc : Int32} {N N' : Nat} {T : Nat → Nat} {g : Nat → Int32} (hN : N' ≤ 60) (hT : ∀ k, k < N' → T k < 60 ∧ xt k = nI (T k)) (ho : ∀ k, k < N → ot k = g k) (k : post (pg_b (pg_al N N' g (fun k => cy (T k)))) (fc, nI N', ol, us, ls, cy, se, me, pl, xt, ot, wa)) : ∀ (n i : Nat) (f : Bool), i ≤ N' → N' < n + i → (f = true ↔ (N = N' ∧ ∀ k, k < i → g k = cy (T k))) → wY_alike_89 post fc (nI N') ol us ls cy se me pl xt ot wa n (pg_b f) (nI i) := by
  intro n
  induction n with
  | zero => intro i f h1 h2; omega
  | succ n ih =>
    intro i f h1 h2 hf
    refine pk_le N' i (fun h => And.intro (pg_b_nar f) ?_) (fun h => ?_)
    · have e : i = N' := by omega
      subst e
      have e2 : f = pg_al N i g (fun k => cy (T k)) := by
        refine pg_beq ?_
        rw [hf, pg_al, pg_B_t]
      rw [e2]
      exact k
    · refine pg_br (fun e => ?_) (fun e => ?_)
      · refine nm_r (nI_1 i) (ih (i + 1) false (by omega) (by omega) ?_)
        rw [e] at hf
        exact ⟨fun z => (by cases z), fun z => hf.mpr ⟨z.1, fun k hk => z.2 k (by omega)⟩⟩
      · have ii := pg_in60 (s := i) (by omega)
        have hfe := hf.mp e
        refine And.intro ii (And.intro ii ?_)
        rw [pg_c (by omega), (hT i h).2]
        refine And.intro (pg_in60 (hT i h).1) ?_
        have hTi := (hT i h).1
        rw [pg_c (by omega), ho i (by omega)]
        refine br_c (fun e2 => ?_) (fun e2 => ?_)
        · refine nm_r (nI_1 i) (ih (i + 1) true (by omega) (by omega) ⟨fun _ => ⟨hfe.1, fun k hk => ?_⟩, fun _ => rfl⟩)
          by_cases c : k = i
          · rw [c]; exact e2
          · exact hfe.2 k (by omega)
        · exact nm_r (nI_1 i) (ih (i + 1) false (by omega) (by omega) ⟨fun z => (by cases z), fun z => absurd (z.2 i (by omega)) e2⟩)
theorem ys_al_33 {post : Int32 → SY → Prop} {x2 : Int32} {N : Nat} {T : Nat → Nat} (hN : N ≤ 60) (hT : ∀ k, k < N → T k < 60 ∧ xt k = nI (T k)) (k : ∀ ot, (∀ k, k < N → ot k = cy (T k)) → wpY_findText (fun u => match u with
    | (f0, f1, f2, a0, a1, a2, a3, a4, a5, a6, a7, a8) => ((f2 = f1 → (∃ n89 : Nat, wY_alike_89 post f0 f1 f2 a0 a1 a2 a3 a4 a5 a6 a7 a8 n89 1 0)) ∧ (¬ f2 = f1 → (∃ n89 : Nat, wY_alike_89 post f0 f1 f2 a0 a1 a2 a3 a4 a5 a6 a7 a8 n89 0 0)))) (nI m, nI N, ol, us, ls, cy, se, me, pl, xt, ot, wa) x2) : ∀ (n i : Nat) (ot : Nat → Int32), i ≤ N → N < n + i → (∀ k, k < i → ot k = cy (T k)) → wY_alike_33 post x2 (nI m) (nI N) ol n (nI i) us ls cy se me pl xt ot wa := by
  intro n
  induction n with
  | zero => intro i ot h1 h2; omega
  | succ n ih =>
    intro i ot h1 h2 ho
    refine pk_le N i (fun h => ?_) (fun h => ?_)
    · exact k ot (fun j hj => ho j (by omega))
    · have ii := pg_in60 (s := i) (by omega)
      have hTi := (hT i h).1
      refine And.intro ii ?_
      rw [pg_c (by omega), (hT i h).2]
      refine And.intro (pg_in60 hTi) (And.intro ii ?_)
      rw [pg_c (by omega)]
      refine nm_e (nm_r (nI_1 i) (ih (i + 1) _ (by omega) (by omega) (fun j hj => ?_)))
      by_cases c : j = i
      · rw [c, pk_us]
      · rw [pk_un c]
        exact ho j (by omega)
end
section
variable {m : Nat} {ins : Nat → Bool} {uu ll : Nat → Option Nat} {st : Nat → Nat → Bool} {ct : Nat → Int32} {pi up lo cx : Nat → Int32} {iw tl tx : Nat → Int32} {ns ps ss lt lf : Nat → Int64} {s t : Nat} {R : Nat → Bool} {L : Nat → Nat → Bool}
theorem xs_al_52 {post : Int32 → SX → Prop} {fc : Int32} {N N' : Nat} {T T' : Nat → Nat} (hN : N ≤ 60) (hs : s < 3) (ht : t < 3) (htl : tl s = nI N) (hT : ∀ k, k < N → T k < 60 ∧ tx (60 * s + k) = nI (T k)) (hT' : ∀ k, k < N' → T' k < 60 ∧ tx (60 * t + k) = nI (T' k)) (k : post (pg_b (pg_al N N' (fun k => cx (T k)) (fun k => cx (T' k)))) (fc, pi, up, lo, cx, ns, ps, ss, lt, lf, iw, tl, tx)) : ∀ (n i : Nat) (f : Bool), i ≤ N → N < n + i → (f = true ↔ (N = N' ∧ ∀ k, k < i → cx (T k) = cx (T' k))) → wX_alike_52 post (nI s) (nI t) fc pi up lo cx ns ps ss lt lf iw tl tx n (pg_b f) (nI i) := by
  intro n
  induction n with
  | zero => intro i f h1 h2; omega
  | succ n ih =>
    intro i f h1 h2 hf
    refine And.intro (pg_in3 hs) ?_
    rw [pg_c (by omega), htl]
    refine pk_le N i (fun h => And.intro (pg_b_nar f) ?_) (fun h => ?_)
    · have e : i = N := by omega
      subst e
      have e2 : f = pg_al i N' (fun k => cx (T k)) (fun k => cx (T' k)) := by
        refine pg_beq ?_
        rw [hf, pg_al, pg_B_t]
        exact ⟨fun z => ⟨z.1, fun k hk => z.2 k (by omega)⟩, fun z => ⟨z.1, fun k hk => z.2 k (by omega)⟩⟩
      rw [e2]
      exact k
    · refine pg_br (fun e => And.intro (pg_b_nar f) ?_) (fun e => ?_)
      · have e2 : f = pg_al N N' (fun k => cx (T k)) (fun k => cx (T' k)) := by
          rw [e]
          symm
          rw [pg_al, pg_B_f]
          intro z
          rw [hf.mpr ⟨z.1, fun k hk => z.2 k (by omega)⟩] at e
          cases e
        rw [e2]
        exact k
      · have hfe := hf.mp e
        have a1 := hT i h
        have a2 := hT' i (by omega)
        refine And.intro (pg_in180 hs (by omega)) ?_
        rw [pg_c180 hs (by omega), a1.2]
        refine And.intro (pg_in60 a1.1) (And.intro (pg_in180 ht (by omega)) ?_)
        rw [pg_c180 ht (by omega), a2.2]
        refine And.intro (pg_in60 a2.1) ?_
        rw [pg_c (by omega), pg_c (by omega)]
        refine br_c (fun e2 => ?_) (fun e2 => ?_)
        · refine nm_r (nI_1 i) (ih (i + 1) true (by omega) (by omega) ⟨fun _ => ⟨hfe.1, fun k hk => ?_⟩, fun _ => rfl⟩)
          by_cases c : k = i
          · rw [c]; exact e2
          · exact hfe.2 k (by omega)
        · exact nm_r (nI_1 i) (ih (i + 1) false (by omega) (by omega) ⟨fun z => (by cases z), fun z => absurd (z.2 i (by omega)) e2⟩)
/-- pairs of X, each twice -/
def pg_tw (rg : Bool) (R : Nat → Bool) (L : Nat → Nat → Bool) (n : Nat) : Nat := pg_sm (fun a => if R a = true then pg_cnt (fun b => R b && pg_q rg L a b) 60 else 0) n
theorem pg_tw_t {rg : Bool} {i : Nat} (h : R i = true) : pg_tw rg R L (i + 1) = pg_tw rg R L i + pg_cnt (fun b => R b && pg_q rg L i b) 60 := by
  unfold pg_tw
  simp only [pg_sm]
  rw [if_pos h]
theorem pg_tw_f {rg : Bool} {i : Nat} (h : R i = false) : pg_tw rg R L (i + 1) = pg_tw rg R L i := by
  unfold pg_tw
  simp only [pg_sm]
  rw [if_neg (by rw [h]; decide)]
  rfl
theorem pg_tw_half (rg : Bool) (hm : m ≤ 60) (hR : ∀ a, R a = true → a < m) (hT : ∀ a b c, L a b = true → L b c = true → L a c = true) : pg_tw rg R L m = 2 * pg_tr rg R L (pg_tn R) := by
  have hR' : ∀ a, R a = true → a < 60 := fun a h => by have := hR a h; omega
  have e : pg_tw rg R L 60 = pg_tw rg R L m := pg_sm_ext hm (fun i h1 _ => by
    show (if R i = true then pg_cnt (fun b => R b && pg_q rg L i b) 60 else 0) = 0
    rw [if_neg]
    intro z
    have := hR i z
    omega)
  rw [← e]
  exact pg_pairs hR' hT (pg_q_s rg L) (pg_q_0 rg L)
theorem pg_tr_le (rg : Bool) (R : Nat → Bool) (L : Nat → Nat → Bool) : ∀ n, pg_tr rg R L n ≤ n * n
  | 0 => Nat.le_refl _
  | n + 1 => by
    have ih := pg_tr_le rg R L n
    have a := pg_cnt_le (fun j => pg_q rg L (pg_tt R L n) (pg_tt R L j)) n
    have e : pg_tr rg R L (n + 1) = pg_tr rg R L n + pg_cnt (fun j => pg_q rg L (pg_tt R L n) (pg_tt R L j)) n := rfl
    rw [e, Nat.add_mul, Nat.mul_add]
    omega
theorem pg_tw_end {post : Int32 → Prop} {rg : Bool} (hm : m ≤ 60) (hR : ∀ a, R a = true → a < m) (hT : ∀ a b c, L a b = true → L b c = true → L a c = true) (k : post (nI (pg_tr rg R L (pg_tn R)))) : ¬ (2 : Int32) = 0 ∧ post (nI (pg_tw rg R L m) / 2) := by
  refine ⟨by decide, ?_⟩
  have hl := pg_tn_le (R := R)
  have a := pg_tr_le rg R L (pg_tn R)
  have a2 : pg_tn R * pg_tn R ≤ 60 * 60 := Nat.mul_le_mul hl hl
  rw [show (2 : Int32) = nI 2 from rfl, pk_div (by rw [pg_tw_half rg hm hR hT]; omega) (by omega) (by omega), pg_tw_half rg hm hR hT, Nat.mul_div_cancel_left _ (by omega)]
  exact k
theorem xs_conf_23 {post : Int32 → Prop} {y : Int64} (hm : m ≤ 60) (hs : s < 3) (hR : ∀ a, R a = true → a < m) (hT : ∀ a b c, L a b = true → L b c = true → L a c = true) (hM : ∀ a, R a = true → ∀ c, pg_tb (lt (60 * s + a)) c = L a c ∧ pg_tb (lf (60 * s + a)) c = L c a) (hy : ∀ a, pg_tb y a = R a) (k : post (nI (pg_tr false R L (pg_tn R)))) : ∀ (n i : Nat), i ≤ m → m < n + i → wX_conflicts_23 post (nI s) y (nI m) pi up lo cx ns ps ss lt lf iw tl tx n (nI (pg_tw false R L i)) (nI i) := by
  intro n
  induction n with
  | zero => intro i h1 h2; omega
  | succ n ih =>
    intro i h1 h2
    refine pk_le m i (fun h => ?_) (fun h => xs_hasBit (by omega) ?_)
    · have e : i = m := by omega
      subst e
      exact pg_tw_end hm hR hT k
    · have z := ih (i + 1) (by omega) (by omega)
      rw [hy i]
      refine pg_br (fun e => ?_) (fun e => And.intro (pg_in180 hs (by omega)) ?_)
      · rw [pg_tw_f e] at z
        exact nm_r (nI_1 i) z
      · rw [pg_c180 hs (by omega)]
        refine nm_e (And.intro (pg_in180 hs (by omega)) (nm_e (xs_bit (by omega) (fun b hb => nm_e (xs_bitsOf ?_)))))
        rw [pg_tw_t e] at z
        refine nm_r ?_ (nm_r (nI_1 i) z)
        rw [nI_add]
        congr 2
        have e60 : pg_cnt (fun b => R b && pg_q false L i b) 60 = pg_cnt (fun b => R b && pg_q false L i b) 64 := pg_cnt_any (b := 60) (fun x hx => by
          rw [Bool.and_eq_true] at hx
          have := hR x hx.1
          omega) (by omega) (by omega)
        rw [e60]
        refine pg_cnt_c (fun x _ => ?_)
        rw [pg_tb_andn, pg_tb_or, pg_tb_or, pg_tb_andn, pg_tb_andn, hy, hb, (hM i e x).1, (hM i e x).2]
        unfold pg_q
        rw [decide_eq_decide.mpr (show x = i ↔ i = x from ⟨Eq.symm, Eq.symm⟩)]
        cases R x <;> cases decide (i = x) <;> cases L i x <;> cases L x i <;> rfl
theorem xs_ring_23 {post : Int32 → Prop} {y : Int64} (hm : m ≤ 60) (hs : s < 3) (hR : ∀ a, R a = true → a < m) (hT : ∀ a b c, L a b = true → L b c = true → L a c = true) (hM : ∀ a, R a = true → ∀ c, pg_tb (lt (60 * s + a)) c = L a c ∧ pg_tb (lf (60 * s + a)) c = L c a) (hy : ∀ a, pg_tb y a = R a) (k : post (nI (pg_tr true R L (pg_tn R)))) : ∀ (n i : Nat), i ≤ m → m < n + i → wX_rings_23 post (nI s) y (nI m) pi up lo cx ns ps ss lt lf iw tl tx n (nI (pg_tw true R L i)) (nI i) := by
  intro n
  induction n with
  | zero => intro i h1 h2; omega
  | succ n ih =>
    intro i h1 h2
    refine pk_le m i (fun h => ?_) (fun h => xs_hasBit (by omega) ?_)
    · have e : i = m := by omega
      subst e
      exact pg_tw_end hm hR hT k
    · have z := ih (i + 1) (by omega) (by omega)
      rw [hy i]
      refine pg_br (fun e => ?_) (fun e => And.intro (pg_in180 hs (by omega)) (And.intro (pg_in180 hs (by omega)) ?_))
      · rw [pg_tw_f e] at z
        exact nm_r (nI_1 i) z
      · rw [pg_c180 hs (by omega)]
        refine xs_bit (by omega) (fun b hb => nm_e (xs_bitsOf ?_))
        rw [pg_tw_t e] at z
        refine nm_r ?_ (nm_r (nI_1 i) z)
        rw [nI_add]
        congr 2
        have e60 : pg_cnt (fun b => R b && pg_q true L i b) 60 = pg_cnt (fun b => R b && pg_q true L i b) 64 := pg_cnt_any (b := 60) (fun x hx => by
          rw [Bool.and_eq_true] at hx
          have := hR x hx.1
          omega) (by omega) (by omega)
        rw [e60]
        refine pg_cnt_c (fun x _ => ?_)
        rw [pg_tb_and, pg_tb_andn, pg_tb_and, hy, hb, (hM i e x).1, (hM i e x).2]
        unfold pg_q
        rw [decide_eq_decide.mpr (show x = i ↔ i = x from ⟨Eq.symm, Eq.symm⟩)]
        cases R x <;> cases decide (i = x) <;> cases L i x <;> cases L x i <;> rfl
end
end
section
/-! the relation taken apart; the first methods -/
theorem pg_el {P : SX → SY → Prop} {k : Nat} {u : SX} {v : SY} (I : i_Rel k u v) (h : ∀ (m : Nat) (ins : Nat → Bool) (uu ll : Nat → Option Nat) (st : Nat → Nat → Bool) (cx pi up lo : Nat → Int32) (ns ps ss lt lf : Nat → Int64) (iw tl tx : Nat → Int32) (yl ol : Int32) (us ls se me pl xt ot : Nat → Int32) (wa : Nat → Int64), pg_WF m ins uu ll st → pg_RX m ins uu ll st cx (nI m, pi, up, lo, cx, ns, ps, ss, lt, lf, iw, tl, tx) → pg_RY m ins uu ll st cx (nI m, yl, ol, us, ls, cx, se, me, pl, xt, ot, wa) → P (nI m, pi, up, lo, cx, ns, ps, ss, lt, lf, iw, tl, tx) (nI m, yl, ol, us, ls, cx, se, me, pl, xt, ot, wa)) : P u v := by
  obtain ⟨m, ins, uu, ll, st, ct, hW, hX, hY⟩ := I
  obtain ⟨fc, pi, up, lo, cx, ns, ps, ss, lt, lf, iw, tl, tx⟩ := u
  obtain ⟨md, yl, ol, us, ls, cy, se, me, pl, xt, ot, wa⟩ := v
  have e1 : fc = nI m := hX.1
  have e2 : cx = ct := hX.2.1
  have e3 : md = nI m := hY.1
  have e4 : cy = ct := hY.2.1
  subst e1 e3
  subst e2
  subst e4
  exact h m ins uu ll st _ pi up lo ns ps ss lt lf iw tl tx yl ol us ls se me pl xt ot wa hW hX hY
theorem pg_cnt64 {y : Int64} {S : Nat → Bool} {m : Nat} (hm : m ≤ 60) (h : ∀ p, pg_tb y p = S p) (hS : ∀ p, S p = true → p < m) : pg_cnt (pg_tb y) 64 = pg_cnt S m := by
  rw [pg_cnt_c (fun i _ => h i)]
  exact pg_cnt_any (b := m) hS (by omega) (by omega)
theorem i_vc0 : wpX_init (fun u => wpY_init (fun v => i_Rel 0 u v)) := by
  refine ⟨0, fun _ => false, fun _ => none, fun _ => none, fun _ _ => false, fun _ => 0, ⟨⟨by omega, fun p hp => by omega⟩, fun s hs p hp => (by cases hp)⟩, ⟨rfl, rfl, fun p hp => by omega, fun s hs => ⟨fun p => pg_tb_0 p, fun a => ?_, fun a ha => (by cases ha), Or.inl rfl⟩⟩, ⟨rfl, rfl, fun p hp => by omega, fun s hs p hp => by omega⟩⟩
  show pg_tb 0 a = _
  rw [pg_tb_0]
  symm
  rw [pg_sk, pg_B_f]
  rintro ⟨p, h, _⟩
  cases h
theorem i_vc_made {k : Nat} {u : SX} {v : SY} (I : i_Rel k u v) (hk : k + 4 ≤ 2048) : wpX_made (fun r => wpY_made (fun r' => r' = r ∧ i_Rel (k + 4) u v) v) u := by
  refine pg_el (P := fun u v => wpX_made (fun r => wpY_made (fun r' => r' = r ∧ i_Rel (k + 4) u v) v) u) I ?_
  intro m ins uu ll st cx pi up lo ns ps ss lt lf iw tl tx yl ol us ls se me pl xt ot wa hW hX hY
  exact And.intro rfl ⟨m, ins, uu, ll, st, cx, hW, hX, hY⟩
theorem i_vc_patches {k : Nat} {u : SX} {v : SY} (I : i_Rel k u v) (hk : k + 4 ≤ 2048) (v1 : Int32) : wpX_patches (fun r => wpY_patches (fun r' => r' = r ∧ i_Rel (k + 4) u v) v v1) u v1 := by
  refine pg_el (P := fun u v => wpX_patches (fun r => wpY_patches (fun r' => r' = r ∧ i_Rel (k + 4) u v) v v1) u v1) I ?_
  intro m ins uu ll st cx pi up lo ns ps ss lt lf iw tl tx yl ol us ls se me pl xt ot wa hW hX hY
  have I' : i_Rel (k + 4) (nI m, pi, up, lo, cx, ns, ps, ss, lt, lf, iw, tl, tx) (nI m, yl, ol, us, ls, cx, se, me, pl, xt, ot, wa) := ⟨m, ins, uu, ll, st, cx, hW, hX, hY⟩
  have hm := hW.1.1
  unfold wpX_patches wpY_patches
  dsimp only
  rcases pg_st v1 with h | ⟨s, hs, rfl⟩
  · exact xs_badT h (br_f (by decide) (ys_isStoreF h (br_t rfl ⟨rfl, I'⟩)))
  · refine xs_badF hs (br_t rfl (And.intro (pg_in3 hs) (xs_bitsOf (ys_isStoreT hs (br_f (by decide) (ys_count hm hY.2.2.2 hs ⟨?_, I'⟩))))))
    rw [pg_c (by omega), pg_cnt64 hm (hX.2.2.2 s hs).1 (fun p h => (hW.2 s hs p h).1)]
theorem i_vc_has {k : Nat} {u : SX} {v : SY} (I : i_Rel k u v) (hk : k + 4 ≤ 2048) (v1 : Int32) (v2 : Int32) : wpX_has (fun r => wpY_has (fun r' => r' = r ∧ i_Rel (k + 4) u v) v v1 v2) u v1 v2 := by
  refine pg_el (P := fun u v => wpX_has (fun r => wpY_has (fun r' => r' = r ∧ i_Rel (k + 4) u v) v v1 v2) u v1 v2) I ?_
  intro m ins uu ll st cx pi up lo ns ps ss lt lf iw tl tx yl ol us ls se me pl xt ot wa hW hX hY
  have I' : i_Rel (k + 4) (nI m, pi, up, lo, cx, ns, ps, ss, lt, lf, iw, tl, tx) (nI m, yl, ol, us, ls, cx, se, me, pl, xt, ot, wa) := ⟨m, ins, uu, ll, st, cx, hW, hX, hY⟩
  have hm := hW.1.1
  unfold wpX_has wpY_has
  dsimp only
  rcases pg_st v1 with h | ⟨s, hs, rfl⟩
  · exact xs_badT h (br_f (by decide) (ys_isStoreF h (br_t rfl ⟨rfl, I'⟩)))
  · refine xs_badF hs (br_t rfl ?_)
    rcases pg_pa hm v2 with h | ⟨p, hp, rfl⟩
    · exact xs_noPT h (br_f (by decide) (ys_isStoreT hs (br_f (by decide) (ys_isPatchF h (br_t rfl ⟨rfl, I'⟩)))))
    · refine xs_noPF hm hp (br_t rfl (And.intro (pg_in3 hs) (xs_hasBit (by omega) ?_)))
      rw [pg_c (by omega), (hX.2.2.2 s hs).1 p]
      have yy : ∀ r, r = pg_b (st s p) → wpY_isStore (fun r_1 => (r_1 = 0 → 0 = r ∧ i_Rel (k + 4) (nI m, pi, up, lo, cx, ns, ps, ss, lt, lf, iw, tl, tx) (nI m, yl, ol, us, ls, cx, se, me, pl, xt, ot, wa)) ∧ (¬ r_1 = 0 → wpY_isPatch (fun r_15 => (r_15 = 0 → 0 = r ∧ i_Rel (k + 4) (nI m, pi, up, lo, cx, ns, ps, ss, lt, lf, iw, tl, tx) (nI m, yl, ol, us, ls, cx, se, me, pl, xt, ot, wa)) ∧ (¬ r_15 = 0 → wpY_hasIt (fun r_29 => (r_29 = 0 → 0 = r ∧ i_Rel (k + 4) (nI m, pi, up, lo, cx, ns, ps, ss, lt, lf, iw, tl, tx) (nI m, yl, ol, us, ls, cx, se, me, pl, xt, ot, wa)) ∧ (¬ r_29 = 0 → 1 = r ∧ i_Rel (k + 4) (nI m, pi, up, lo, cx, ns, ps, ss, lt, lf, iw, tl, tx) (nI m, yl, ol, us, ls, cx, se, me, pl, xt, ot, wa))) (nI m, yl, ol, us, ls, cx, se, me, pl, xt, ot, wa) (nI s) (nI p))) (nI m, yl, ol, us, ls, cx, se, me, pl, xt, ot, wa) (nI p))) (nI m, yl, ol, us, ls, cx, se, me, pl, xt, ot, wa) (nI s) := by
        intro r hr
        refine ys_isStoreT hs (br_f (by decide) (ys_isPatchT hm hp (br_f (by decide) (ys_hasIt hm hY.2.2.2 hs hp (pg_br (fun e => ⟨?_, I'⟩) (fun e => ⟨?_, I'⟩))))))
        · rw [hr, e]; rfl
        · rw [hr, e]; rfl
      refine pg_br (fun e => yy 0 (by rw [e]; rfl)) (fun e => yy 1 (by rw [e]; rfl))
theorem i_vc_patch {k : Nat} {u : SX} {v : SY} (I : i_Rel k u v) (hk : k + 4 ≤ 2048) (v1 : Int32) (v2 : Int32) : wpX_patch (fun r => wpY_patch (fun r' => r' = r ∧ i_Rel (k + 4) u v) v v1 v2) u v1 v2 := by
  refine pg_el (P := fun u v => wpX_patch (fun r => wpY_patch (fun r' => r' = r ∧ i_Rel (k + 4) u v) v v1 v2) u v1 v2) I ?_
  intro m ins uu ll st cx pi up lo ns ps ss lt lf iw tl tx yl ol us ls se me pl xt ot wa hW hX hY
  have I' : i_Rel (k + 4) (nI m, pi, up, lo, cx, ns, ps, ss, lt, lf, iw, tl, tx) (nI m, yl, ol, us, ls, cx, se, me, pl, xt, ot, wa) := ⟨m, ins, uu, ll, st, cx, hW, hX, hY⟩
  have hm := hW.1.1
  unfold wpX_patch wpY_patch
  dsimp only
  refine br_c (fun h0 => br_t h0 ⟨rfl, I'⟩) (fun h0 => br_c (fun h2 => ?_) (fun h2 => br_f h0 (br_f h2 ⟨rfl, I'⟩)))
  rcases pg_pa hm v1 with h | ⟨p, hp, rfl⟩
  · exact xs_noPT h (br_f (by decide) (br_f h0 (br_t h2 (ys_isPatchF h (br_t rfl ⟨rfl, I'⟩)))))
  · have hpx := hX.2.2.1 p hp
    have hpy := hY.2.2.1 p hp
    have hi := pg_in60 (s := p) (by omega)
    have hu : ∀ q, uu p = some q → q < 60 := fun q z => by have := ((hW.1.2 p hp).1 q z).1; omega
    refine xs_noPF hm hp (br_t rfl (br_c (fun z0 => And.intro hi ?_) (fun z0 => br_c (fun z1 => And.intro hi ?_) (fun z1 => And.intro hi ?_))))
    · rw [pg_c (by omega), hpx.1]
      refine pg_br (fun e => ?_) (fun e => ?_)
      · refine br_f h0 (br_t h2 (ys_isPatchT hm hp (br_f (by decide) (br_t z0 (ys_isLine hW.1 hY.2.2.1 hp ?_)))))
        rw [e]
        exact br_t rfl ⟨rfl, I'⟩
      · refine br_f h0 (br_t h2 (ys_isPatchT hm hp (br_f (by decide) (br_t z0 (ys_isLine hW.1 hY.2.2.1 hp ?_)))))
        rw [e]
        exact br_f (by decide) ⟨rfl, I'⟩
    · rw [pg_c (by omega), hpx.2.1]
      unfold wX_patch_62
      cases e : uu p with
      | none =>
        refine br_t rfl (br_f h0 (br_t h2 (ys_isPatchT hm hp (br_f (by decide) (br_f z0 (br_t z1 (And.intro hi ?_)))))))
        unfold wY_patch_61
        rw [hpy.1, e]
        exact br_f (by decide) ⟨rfl, I'⟩
      | some q =>
        have hq := hu q e
        refine br_f (pg_nm1 (by omega)) (br_f h0 (br_t h2 (ys_isPatchT hm hp (br_f (by decide) (br_f z0 (br_t z1 (And.intro hi ?_)))))))
        unfold wY_patch_61
        rw [hpy.1, e]
        exact br_t (nI_pos' (by omega)) ⟨rfl, I'⟩
    · rw [pg_c (by omega), hpx.2.2.1]
      unfold wX_patch_62
      rcases pg_lwc hW.1 hp with ⟨e1, e2⟩ | ⟨q, e1, e2, e3⟩
      · rw [e1]
        refine br_t rfl (br_f h0 (br_t h2 (ys_isPatchT hm hp (br_f (by decide) (br_f z0 (br_f z1 (And.intro hi ?_)))))))
        unfold wY_patch_61
        rw [hpy.2]
        exact br_f (Int32.not_le.mpr e2) ⟨rfl, I'⟩
      · rw [e1]
        refine br_f (pg_nm1 (by omega)) (br_f h0 (br_t h2 (ys_isPatchT hm hp (br_f (by decide) (br_f z0 (br_f z1 (And.intro hi ?_)))))))
        unfold wY_patch_61
        rw [hpy.2, e3]
        exact br_t (nI_pos' (by omega)) ⟨rfl, I'⟩
theorem i_vc_needs {k : Nat} {u : SX} {v : SY} (I : i_Rel k u v) (hk : k + 4 ≤ 2048) (v1 : Int32) (v2 : Int32) : wpX_needs (fun r => wpY_needs (fun r' v' => r' = r ∧ i_Rel (k + 4) u v') v v1 v2) u v1 v2 := by
  refine pg_el (P := fun u v => wpX_needs (fun r => wpY_needs (fun r' v' => r' = r ∧ i_Rel (k + 4) u v') v v1 v2) u v1 v2) I ?_
  intro m ins uu ll st cx pi up lo ns ps ss lt lf iw tl tx yl ol us ls se me pl xt ot wa hW hX hY
  have I' : i_Rel (k + 4) (nI m, pi, up, lo, cx, ns, ps, ss, lt, lf, iw, tl, tx) (nI m, yl, ol, us, ls, cx, se, me, pl, xt, ot, wa) := ⟨m, ins, uu, ll, st, cx, hW, hX, hY⟩
  have hm := hW.1.1
  unfold wpX_needs wpY_needs
  dsimp only
  rcases pg_pa hm v1 with h | ⟨p, hp, rfl⟩
  · exact xs_noPT h (br_f (by decide) (ys_isPatchF h (br_t rfl ⟨rfl, I'⟩)))
  · refine xs_noPF hm hp (br_t rfl ?_)
    rcases pg_pa hm v2 with h | ⟨q, hq, rfl⟩
    · exact xs_noPT h (br_f (by decide) (ys_isPatchT hm hp (br_f (by decide) (ys_isPatchF h (br_t rfl ⟨rfl, I'⟩)))))
    · refine xs_noPF hm hq (br_t rfl (And.intro (pg_in60 (by omega)) (xs_hasBit (by omega) ?_)))
      rw [pg_c (by omega), (hX.2.2.1 p hp).2.2.2 q]
      have yy : ∀ r, r = pg_b (pg_nd uu ll p q) → wpY_isPatch (fun r_1 => (r_1 = 0 → 0 = r ∧ i_Rel (k + 4) (nI m, pi, up, lo, cx, ns, ps, ss, lt, lf, iw, tl, tx) (nI m, yl, ol, us, ls, cx, se, me, pl, xt, ot, wa)) ∧ (¬ r_1 = 0 → wpY_isPatch (fun r_15 => (r_15 = 0 → 0 = r ∧ i_Rel (k + 4) (nI m, pi, up, lo, cx, ns, ps, ss, lt, lf, iw, tl, tx) (nI m, yl, ol, us, ls, cx, se, me, pl, xt, ot, wa)) ∧ (¬ r_15 = 0 → (nI p = nI q → 0 = r ∧ i_Rel (k + 4) (nI m, pi, up, lo, cx, ns, ps, ss, lt, lf, iw, tl, tx) (nI m, yl, ol, us, ls, cx, se, me, pl, xt, ot, wa)) ∧ (¬ nI p = nI q → wpY_gather (fun u => match u with
          | (f0, f1, f2, a0, a1, a2, a3, a4, a5, a6, a7, a8) => vp_in (nI q) 60 ∧ (narrow .boolean (.int (a4 (nI q).toNatClampNeg)) = .int (a4 (nI q).toNatClampNeg) ∧ (a4 (nI q).toNatClampNeg = r ∧ i_Rel (k + 4) (nI m, pi, up, lo, cx, ns, ps, ss, lt, lf, iw, tl, tx) (f0, f1, f2, a0, a1, a2, a3, a4, a5, a6, a7, a8)))) (nI m, yl, ol, us, ls, cx, se, me, pl, xt, ot, wa) (nI p)))) (nI m, yl, ol, us, ls, cx, se, me, pl, xt, ot, wa) (nI q))) (nI m, yl, ol, us, ls, cx, se, me, pl, xt, ot, wa) (nI p) := by
        intro r hr
        refine ys_isPatchT hm hp (br_f (by decide) (ys_isPatchT hm hq (br_f (by decide) (pk_eq p q (fun e => ⟨?_, I'⟩) (fun e => ys_gather hW.1 hY.2.2.1 hp (fun me' pl' hM => And.intro (pg_in60 (by omega)) ?_))))))
        · rw [hr]
          subst e
          cases z : pg_nd uu ll p p with
          | false => rfl
          | true => have := pg_nd_lt hW.1 hp z; omega
        · rw [pg_c (by omega), hM q hq]
          refine ⟨pg_b_nar _, ?_, m, ins, uu, ll, st, cx, hW, hX, hY⟩
          rw [hr]
          show pg_b (pg_nd uu ll p q || decide (q = p)) = _
          rw [decide_eq_false (fun z => e z.symm), Bool.or_false]
      refine pg_br (fun e => yy 0 (by rw [e]; rfl)) (fun e => yy 1 (by rw [e]; rfl))
theorem i_vc_needed {k : Nat} {u : SX} {v : SY} (I : i_Rel k u v) (hk : k + 4 ≤ 2048) (v1 : Int32) : wpX_needed (fun r => wpY_needed (fun r' v' => r' = r ∧ i_Rel (k + 4) u v') v v1) u v1 := by
  refine pg_el (P := fun u v => wpX_needed (fun r => wpY_needed (fun r' v' => r' = r ∧ i_Rel (k + 4) u v') v v1) u v1) I ?_
  intro m ins uu ll st cx pi up lo ns ps ss lt lf iw tl tx yl ol us ls se me pl xt ot wa hW hX hY
  have I' : i_Rel (k + 4) (nI m, pi, up, lo, cx, ns, ps, ss, lt, lf, iw, tl, tx) (nI m, yl, ol, us, ls, cx, se, me, pl, xt, ot, wa) := ⟨m, ins, uu, ll, st, cx, hW, hX, hY⟩
  have hm := hW.1.1
  unfold wpX_needed wpY_needed
  dsimp only
  rcases pg_pa hm v1 with h | ⟨p, hp, rfl⟩
  · exact xs_noPT h (br_f (by decide) (ys_isPatchF h (br_t rfl ⟨rfl, I'⟩)))
  · refine xs_noPF hm hp (br_t rfl (And.intro (pg_in60 (by omega)) (xs_bitsOf ?_)))
    refine ys_isPatchT hm hp (br_f (by decide) (ys_gather hW.1 hY.2.2.1 hp (fun me' pl' hM => ⟨m + 1, ?_⟩)))
    refine ys_needed_20 (Y := pg_wn uu ll (some p)) hm hM ⟨?_, m, ins, uu, ll, st, cx, hW, hX, hY⟩ (m + 1) 0 (by omega) (by omega)
    have hz : pg_nd uu ll p p = false := by
      cases z : pg_nd uu ll p p with
      | false => rfl
      | true => have := pg_nd_lt hW.1 hp z; omega
    have e1 : pg_cnt (pg_wn uu ll (some p)) m = pg_cnt (pg_nd uu ll p) m + 1 := pg_cnt_set hp (fun i hi => by
      show (pg_nd uu ll p i || decide (i = p)) = _
      rw [decide_eq_false hi, Bool.or_false]) hz (by
      show (pg_nd uu ll p p || decide (p = p)) = true
      rw [decide_eq_true rfl, Bool.or_true])
    rw [e1, pg_c (by omega), pg_cnt64 hm (hX.2.2.1 p hp).2.2.2 (fun q h => by have := pg_nd_lt hW.1 hp h; omega)]
    rfl
theorem i_vc_loose {k : Nat} {u : SX} {v : SY} (I : i_Rel k u v) (hk : k + 4 ≤ 2048) (v1 : Int32) : wpX_loose (fun r => wpY_loose (fun r' => r' = r ∧ i_Rel (k + 4) u v) v v1) u v1 := by
  refine pg_el (P := fun u v => wpX_loose (fun r => wpY_loose (fun r' => r' = r ∧ i_Rel (k + 4) u v) v v1) u v1) I ?_
  intro m ins uu ll st cx pi up lo ns ps ss lt lf iw tl tx yl ol us ls se me pl xt ot wa hW hX hY
  have I' : i_Rel (k + 4) (nI m, pi, up, lo, cx, ns, ps, ss, lt, lf, iw, tl, tx) (nI m, yl, ol, us, ls, cx, se, me, pl, xt, ot, wa) := ⟨m, ins, uu, ll, st, cx, hW, hX, hY⟩
  have hm := hW.1.1
  unfold wpX_loose wpY_loose
  dsimp only
  rcases pg_st v1 with h | ⟨s, hs, rfl⟩
  · exact xs_badT h (br_f (by decide) (ys_isStoreF h (br_t rfl ⟨rfl, I'⟩)))
  · refine xs_badF hs (br_t rfl (And.intro (pg_in3 hs) (xs_neededIn hW hX.2.2.1 hs (hX.2.2.2 s hs).1 (fun y hy => xs_bitsOf ?_))))
    refine ys_isStoreT hs (br_f (by decide) ⟨m + 1, ys_loose_15 hW hY.2.2.1 hY.2.2.2 hs ⟨?_, I'⟩ (m + 1) 0 (by omega) (by omega)⟩)
    rw [pg_c (by omega), pg_cnt64 (S := fun q => st s q && !pg_ne uu ll (st s) q) hm (fun p => by rw [pg_tb_andn, hy, (hX.2.2.2 s hs).1]) (fun p h => by
      rw [Bool.and_eq_true] at h
      exact (hW.2 s hs p h.1).1)]
theorem i_vc_agree {k : Nat} {u : SX} {v : SY} (I : i_Rel k u v) (hk : k + 4 ≤ 2048) (v1 : Int32) (v2 : Int32) : wpX_agree (fun r => wpY_agree (fun r' => r' = r ∧ i_Rel (k + 4) u v) v v1 v2) u v1 v2 := by
  refine pg_el (P := fun u v => wpX_agree (fun r => wpY_agree (fun r' => r' = r ∧ i_Rel (k + 4) u v) v v1 v2) u v1 v2) I ?_
  intro m ins uu ll st cx pi up lo ns ps ss lt lf iw tl tx yl ol us ls se me pl xt ot wa hW hX hY
  have I' : i_Rel (k + 4) (nI m, pi, up, lo, cx, ns, ps, ss, lt, lf, iw, tl, tx) (nI m, yl, ol, us, ls, cx, se, me, pl, xt, ot, wa) := ⟨m, ins, uu, ll, st, cx, hW, hX, hY⟩
  have hm := hW.1.1
  unfold wpX_agree wpY_agree
  dsimp only
  rcases pg_st v1 with h | ⟨s, hs, rfl⟩
  · exact xs_badT h (br_f (by decide) (ys_isStoreF h (br_t rfl ⟨rfl, I'⟩)))
  · refine xs_badF hs (br_t rfl ?_)
    rcases pg_st v2 with h | ⟨t, ht, rfl⟩
    · exact xs_badT h (br_f (by decide) (ys_isStoreT hs (br_f (by decide) (ys_isStoreF h (br_t rfl ⟨rfl, I'⟩)))))
    · refine xs_badF ht (br_t rfl (And.intro (pg_in3 hs) (And.intro (pg_in3 ht) ?_)))
      rw [pg_c (by omega), pg_c (by omega)]
      have ee : ps s = ps t ↔ ∀ p, st s p = st t p := by
        constructor
        · intro z p
          rw [← (hX.2.2.2 s hs).1, ← (hX.2.2.2 t ht).1, z]
        · intro z
          exact pg_tb_ext (fun i _ => by rw [(hX.2.2.2 s hs).1, (hX.2.2.2 t ht).1, z])
      refine br_c (fun e => ?_) (fun e => ?_)
      · refine ys_isStoreT hs (br_f (by decide) (ys_isStoreT ht (br_f (by decide) ⟨m + 1, ys_agree_20 hW hY.2.2.2 hs ht ⟨?_, I'⟩ (m + 1) 0 (by omega) (by omega) (fun p hp => by omega)⟩)))
        rw [pg_B_t.mpr (ee.mp e)]; rfl
      · refine ys_isStoreT hs (br_f (by decide) (ys_isStoreT ht (br_f (by decide) ⟨m + 1, ys_agree_20 hW hY.2.2.2 hs ht ⟨?_, I'⟩ (m + 1) 0 (by omega) (by omega) (fun p hp => by omega)⟩)))
        rw [pg_B_f.mpr (fun z => e (ee.mpr z))]; rfl
end
section
/-! the texts' methods -/
section
variable {m : Nat} {ins : Nat → Bool} {uu ll : Nat → Option Nat} {st : Nat → Nat → Bool} {s : Nat}
theorem pg_R60 (hW : pg_WF m ins uu ll st) (hs : s < 3) : ∀ a, pg_op ins uu (st s) a = true → a < 60 := fun a h => by
  have := (hW.2 s hs a (pg_op_in h).1).1
  have := hW.1.1
  omega
theorem pg_T (S : Nat → Bool) : ∀ a b c, pg_ld ins uu ll S a b = true → pg_ld ins uu ll S b c = true → pg_ld ins uu ll S a c = true := fun _ _ _ => pg_ld_t
/-- the line at place j; the line ahead of place j -/
noncomputable def pg_at (R : Nat → Bool) (L : Nat → Nat → Bool) (j : Nat) : Option Nat := if j < pg_tn R then some (pg_tt R L j) else none
noncomputable def pg_bf (R : Nat → Bool) (L : Nat → Nat → Bool) : Nat → Option Nat
  | 0 => none
  | j + 1 => pg_at R L j
theorem pg_at_ok (hW : pg_WF m ins uu ll st) (hs : s < 3) {j q : Nat} (h : pg_at (pg_op ins uu (st s)) (pg_ld ins uu ll (st s)) j = some q) : st s q = true ∧ ins q = true := by
  unfold pg_at at h
  by_cases c : j < pg_tn (pg_op ins uu (st s))
  · rw [if_pos c] at h
    cases h
    exact pg_op_in (pg_tt_in (pg_R60 hW hs) (pg_T (st s)) c)
  · rw [if_neg c] at h
    cases h
theorem pg_bf_ok (hW : pg_WF m ins uu ll st) (hs : s < 3) {j q : Nat} (h : pg_bf (pg_op ins uu (st s)) (pg_ld ins uu ll (st s)) j = some q) : st s q = true ∧ ins q = true := by
  cases j with
  | zero => cases h
  | succ j => exact pg_at_ok hW hs h
end
section
variable {pi up lo cx : Nat → Int32} {ns ps ss lt lf : Nat → Int64} {iw tl tx : Nat → Int32} {s : Nat} {R : Nat → Bool} {L : Nat → Nat → Bool}
theorem xs_lineAt {post : Int32 → Prop} {fc : Int32} {j : Nat} (hs : s < 3) (hw : pg_wr R L s tl tx) (hj : j < 2 ^ 31) (k : post (pg_o (pg_at R L j))) : wpX_lineAt post (fc, pi, up, lo, cx, ns, ps, ss, lt, lf, iw, tl, tx) (nI s) (nI j) := by
  unfold pg_at at k
  by_cases c : j < pg_tn R
  · rw [if_pos c] at k
    exact xs_lineAtS hs hw c k
  · rw [if_neg c] at k
    exact xs_lineAtN hs hw (Or.inr (nI_le (by omega) hj)) k
theorem xs_lineAtP {post : Int32 → Prop} {fc : Int32} {j : Nat} (hs : s < 3) (hw : pg_wr R L s tl tx) (hj : j < 2 ^ 31) (k : post (pg_o (pg_bf R L j))) : wpX_lineAt post (fc, pi, up, lo, cx, ns, ps, ss, lt, lf, iw, tl, tx) (nI s) (nI j - 1) := by
  cases j with
  | zero => exact xs_lineAtN hs hw (Or.inl (by decide)) k
  | succ j =>
    rw [nI_pred]
    exact xs_lineAt hs hw (by omega) k
end
section
variable {m : Nat} {ins : Nat → Bool} {uu ll : Nat → Option Nat} {st : Nat → Nat → Bool} {ct : Nat → Int32} {yl ol : Int32} {us ls cy se me pl xt ot : Nat → Int32} {wa : Nat → Int64} {s : Nat} {o1 o2 : Option Nat}
theorem ys_makeT {post : Int32 → SY → Prop} {c : Int32} (hW : pg_WF m ins uu ll st) (hY : pg_RY m ins uu ll st ct (nI m, yl, ol, us, ls, cy, se, me, pl, xt, ot, wa)) (hs : s < 3) (hm : m < 60) (k : ∀ v', pg_RY (m + 1) (pg_fu ins m true) (pg_fu uu m o1) (pg_fu ll m o2) (pg_gv st s m) (upd ct m c) v' → post (nI m) v') : wpY_make post (nI m, yl, ol, us, ls, cy, se, me, pl, xt, ot, wa) (nI s) (pg_o o1) (pg_o o2) c := by
  have h := ys_make (b := true) (o1 := o1) (o2 := o2) hW hY hs hm k
  rw [if_pos rfl] at h
  exact h
theorem ys_makeS {post : Int32 → SY → Prop} {c : Int32} (hW : pg_WF m ins uu ll st) (hY : pg_RY m ins uu ll st ct (nI m, yl, ol, us, ls, cy, se, me, pl, xt, ot, wa)) (hs : s < 3) (hm : m < 60) (k : ∀ v', pg_RY (m + 1) (pg_fu ins m false) (pg_fu uu m o1) (pg_fu ll m none) (pg_gv st s m) (upd ct m c) v' → post (nI m) v') : wpY_make post (nI m, yl, ol, us, ls, cy, se, me, pl, xt, ot, wa) (nI s) (pg_o o1) (-2) c := by
  have h := ys_make (b := false) (o1 := o1) (o2 := none) hW hY hs hm k
  rw [if_neg (by decide)] at h
  exact h
/-! Y's put -/
theorem ys_putB {post : Int32 → SY → Prop} {x y z : Int32} (h : x < 0 ∨ ¬ x < 3) (k : post (-1000000001) (nI m, yl, ol, us, ls, cy, se, me, pl, xt, ot, wa)) : wpY_put post (nI m, yl, ol, us, ls, cy, se, me, pl, xt, ot, wa) x y z := by
  unfold wpY_put
  exact ys_isStoreF h (br_t rfl k)
theorem ys_putK {post : Int32 → SY → Prop} {y z : Int32} (hW : pg_WF m ins uu ll st) (hY : pg_RY m ins uu ll st ct (nI m, yl, ol, us, ls, cy, se, me, pl, xt, ot, wa)) (hs : s < 3) (h : ¬ y < 0 → ¬ y ≤ nI (pg_tn (pg_op ins uu (st s)))) (k : ∀ v', pg_RY m ins uu ll st ct v' → post (-1000000001) v') : wpY_put post (nI m, yl, ol, us, ls, cy, se, me, pl, xt, ot, wa) (nI s) y z := by
  unfold wpY_put
  refine ys_isStoreT hs (br_f (by decide) (ys_findText hW hY.2.2.1 hY.2.2.2 hs (fun me' xt' wa' hw hx => ?_)))
  exact br_c (fun _ => k _ hY) (fun h0 => br_f (h h0) (k _ hY))
theorem ys_putM {post : Int32 → SY → Prop} {j : Nat} {z : Int32} (hW : pg_WF m ins uu ll st) (hY : pg_RY m ins uu ll st ct (nI m, yl, ol, us, ls, cy, se, me, pl, xt, ot, wa)) (hs : s < 3) (hj : j ≤ pg_tn (pg_op ins uu (st s))) (kF : m = 60 → ∀ v', pg_RY m ins uu ll st ct v' → post (-1000000002) v') (k : m < 60 → ∀ v', pg_RY (m + 1) (pg_fu ins m true) (pg_fu uu m (pg_bf (pg_op ins uu (st s)) (pg_ld ins uu ll (st s)) j)) (pg_fu ll m (pg_at (pg_op ins uu (st s)) (pg_ld ins uu ll (st s)) j)) (pg_gv st s m) (upd ct m z) v' → post (nI m) v') : wpY_put post (nI m, yl, ol, us, ls, cy, se, me, pl, xt, ot, wa) (nI s) (nI j) z := by
  have hm := hW.1.1
  have hl := pg_tn_le (R := pg_op ins uu (st s))
  unfold wpY_put
  refine ys_isStoreT hs (br_f (by decide) (ys_findText hW hY.2.2.1 hY.2.2.2 hs (fun me' xt' wa' hw hx => ?_)))
  refine br_f (nI_pos (by omega)) (br_t (nI_le hj (by omega)) ?_)
  have mk : ∀ o1 o2 : Option Nat, o1 = pg_bf (pg_op ins uu (st s)) (pg_ld ins uu ll (st s)) j → o2 = pg_at (pg_op ins uu (st s)) (pg_ld ins uu ll (st s)) j → wY_put_67 post z (pg_o o2) (pg_o o1) (nI s) (nI m) (nI (pg_tn (pg_op ins uu (st s)))) ol us ls cy se me' pl xt' ot wa' := by
    intro o1 o2 e1 e2
    subst e1 e2
    unfold wY_put_67
    by_cases c : m = 60
    · exact ys_makeF c (kF c _ hY)
    · refine ys_makeT (ct := ct) hW hY hs (by omega) (fun v' hv => ?_)
      obtain ⟨f0, f1, f2, a0, a1, a2, a3, a4, a5, a6, a7, a8⟩ := v'
      exact k (by omega) _ hv
  have p49 : ∀ o1 : Option Nat, o1 = pg_bf (pg_op ins uu (st s)) (pg_ld ins uu ll (st s)) j → wY_put_49 post (nI j) z (pg_o o1) (nI s) (nI m) (nI (pg_tn (pg_op ins uu (st s)))) ol us ls cy se me' pl xt' ot wa' := by
    intro o1 e1
    unfold wY_put_49
    refine pk_le (pg_tn (pg_op ins uu (st s))) j (fun h => ?_) (fun h => And.intro (pg_in60 (by omega)) ?_)
    · exact mk o1 none e1 (by unfold pg_at; rw [if_neg (by omega)])
    · rw [pg_c (by omega), hx j h]
      exact mk o1 (some _) e1 (by unfold pg_at; rw [if_pos h])
  cases j with
  | zero => exact br_t (by decide) (p49 none rfl)
  | succ j =>
    refine br_f (nI_nle (by omega) (by omega)) ?_
    rw [nI_pred]
    refine And.intro (pg_in60 (by omega)) ?_
    rw [pg_c (by omega), hx j (by omega)]
    exact p49 (some _) (by show _ = pg_at _ _ j; unfold pg_at; rw [if_pos (by omega)])
end
theorem i_vc_put {k : Nat} {u : SX} {v : SY} (I : i_Rel k u v) (hk : k + 4 ≤ 2048) (v1 : Int32) (v2 : Int32) (v3 : Int32) : wpX_put (fun r u' => wpY_put (fun r' v' => r' = r ∧ i_Rel (k + 4) u' v') v v1 v2 v3) u v1 v2 v3 := by
  refine pg_el (P := fun u v => wpX_put (fun r u' => wpY_put (fun r' v' => r' = r ∧ i_Rel (k + 4) u' v') v v1 v2 v3) u v1 v2 v3) I ?_
  intro m ins uu ll st cx pi up lo ns ps ss lt lf iw tl tx yl ol us ls se me pl xt ot wa hW hX hY
  have I' : i_Rel (k + 4) (nI m, pi, up, lo, cx, ns, ps, ss, lt, lf, iw, tl, tx) (nI m, yl, ol, us, ls, cx, se, me, pl, xt, ot, wa) := ⟨m, ins, uu, ll, st, cx, hW, hX, hY⟩
  have hm := hW.1.1
  unfold wpX_put
  dsimp only
  rcases pg_st v1 with h | ⟨s, hs, rfl⟩
  · exact xs_badT h (br_f (by decide) (ys_putB h ⟨rfl, I'⟩))
  · have hl := pg_tn_le (R := pg_op ins uu (st s))
    refine xs_badF hs (br_t rfl (xs_write hW hX hs (fun iw' tl' tx' hX1 hw _ => ?_)))
    by_cases h0 : v2 < 0
    · exact br_t h0 (ys_putK hW hY hs (fun z => absurd h0 z) (fun v' hv => ⟨rfl, m, ins, uu, ll, st, cx, hW, hX1, hv⟩))
    · obtain ⟨j, hj, rfl⟩ := nI_of h0
      refine br_f h0 (And.intro (pg_in3 hs) ?_)
      dsimp only
      rw [pg_c (by omega), hw.1]
      refine pk_le j (pg_tn (pg_op ins uu (st s))) (fun hjn => ?_) (fun hjn => ?_)
      · refine pk_eq m 60 (fun e => ?_) (fun e => ?_)
        · exact ys_putM hW hY hs hjn (fun _ v' hv => ⟨rfl, m, ins, uu, ll, st, cx, hW, hX1, hv⟩) (fun h => by omega)
        · refine xs_lineAtP hs hw hj (xs_lineAt hs hw hj ?_)
          have ok : pg_ok ins (st s) true (pg_bf (pg_op ins uu (st s)) (pg_ld ins uu ll (st s)) j) (pg_at (pg_op ins uu (st s)) (pg_ld ins uu ll (st s)) j) := ⟨fun q h => pg_bf_ok hW hs h, fun q h => pg_at_ok hW hs h, fun h => by cases h⟩
          refine xs_make (b := true) hW hX1 hs (by omega) ok (fun u' hu => ?_)
          obtain ⟨f0, a1, a2, a3, a4, a5, a6, a7, a8, a9, a10, a11, a12⟩ := u'
          exact ys_putM hW hY hs hjn (fun h => absurd h e) (fun h v' hv => ⟨rfl, m + 1, _, _, _, _, _, pg_WF_new hW hs (by omega) ok, hu, hv⟩)
      · exact ys_putK hW hY hs (fun _ => nI_ge hjn hj) (fun v' hv => ⟨rfl, m, ins, uu, ll, st, cx, hW, hX1, hv⟩)
theorem i_vc_length {k : Nat} {u : SX} {v : SY} (I : i_Rel k u v) (hk : k + 4 ≤ 2048) (v1 : Int32) : wpX_length (fun r u' => wpY_length (fun r' v' => r' = r ∧ i_Rel (k + 4) u' v') v v1) u v1 := by
  refine pg_el (P := fun u v => wpX_length (fun r u' => wpY_length (fun r' v' => r' = r ∧ i_Rel (k + 4) u' v') v v1) u v1) I ?_
  intro m ins uu ll st cx pi up lo ns ps ss lt lf iw tl tx yl ol us ls se me pl xt ot wa hW hX hY
  have I' : i_Rel (k + 4) (nI m, pi, up, lo, cx, ns, ps, ss, lt, lf, iw, tl, tx) (nI m, yl, ol, us, ls, cx, se, me, pl, xt, ot, wa) := ⟨m, ins, uu, ll, st, cx, hW, hX, hY⟩
  unfold wpX_length wpY_length
  dsimp only
  rcases pg_st v1 with h | ⟨s, hs, rfl⟩
  · exact xs_badT h (br_f (by decide) (ys_isStoreF h (br_t rfl ⟨rfl, I'⟩)))
  · refine xs_badF hs (br_t rfl (xs_write hW hX hs (fun iw' tl' tx' hX1 hw _ => And.intro (pg_in3 hs) ?_)))
    refine ys_isStoreT hs (br_f (by decide) (ys_findText hW hY.2.2.1 hY.2.2.2 hs (fun me' xt' wa' hw' hx => ⟨?_, m, ins, uu, ll, st, cx, hW, hX1, hY⟩)))
    dsimp only
    rw [pg_c (by omega), hw.1]
theorem i_vc_line {k : Nat} {u : SX} {v : SY} (I : i_Rel k u v) (hk : k + 4 ≤ 2048) (v1 : Int32) (v2 : Int32) : wpX_line (fun r u' => wpY_line (fun r' v' => r' = r ∧ i_Rel (k + 4) u' v') v v1 v2) u v1 v2 := by
  refine pg_el (P := fun u v => wpX_line (fun r u' => wpY_line (fun r' v' => r' = r ∧ i_Rel (k + 4) u' v') v v1 v2) u v1 v2) I ?_
  intro m ins uu ll st cx pi up lo ns ps ss lt lf iw tl tx yl ol us ls se me pl xt ot wa hW hX hY
  have I' : i_Rel (k + 4) (nI m, pi, up, lo, cx, ns, ps, ss, lt, lf, iw, tl, tx) (nI m, yl, ol, us, ls, cx, se, me, pl, xt, ot, wa) := ⟨m, ins, uu, ll, st, cx, hW, hX, hY⟩
  unfold wpX_line wpY_line
  dsimp only
  rcases pg_st v1 with h | ⟨s, hs, rfl⟩
  · exact xs_badT h (br_f (by decide) (ys_isStoreF h (br_t rfl ⟨rfl, I'⟩)))
  · have hl := pg_tn_le (R := pg_op ins uu (st s))
    refine xs_badF hs (br_t rfl (xs_write hW hX hs (fun iw' tl' tx' hX1 hw _ => ?_)))
    rcases pg_pa hl v2 with h | ⟨j, hj, rfl⟩
    · refine xs_lineAtN hs hw h (br_t rfl ?_)
      refine ys_isStoreT hs (br_f (by decide) (ys_findText hW hY.2.2.1 hY.2.2.2 hs (fun me' xt' wa' hw' hx => ?_)))
      exact br_c (fun _ => ⟨rfl, m, ins, uu, ll, st, cx, hW, hX1, hY⟩) (fun h0 => br_t (h.resolve_left h0) ⟨rfl, m, ins, uu, ll, st, cx, hW, hX1, hY⟩)
    · have htt := pg_R60 hW hs _ (pg_tt_in (pg_R60 hW hs) (pg_T (ins := ins) (uu := uu) (ll := ll) (st s)) hj)
      refine xs_lineAtS hs hw hj (br_f (pg_nm1 (by omega)) ?_)
      refine ys_isStoreT hs (br_f (by decide) (ys_findText hW hY.2.2.1 hY.2.2.2 hs (fun me' xt' wa' hw' hx => ?_)))
      refine br_f (nI_pos (by omega)) (br_f (nI_ge hj (by omega)) (And.intro (pg_in60 (by omega)) ⟨?_, m, ins, uu, ll, st, cx, hW, hX1, hY⟩))
      dsimp only
      rw [pg_c (by omega), hx j hj]
theorem i_vc_content {k : Nat} {u : SX} {v : SY} (I : i_Rel k u v) (hk : k + 4 ≤ 2048) (v1 : Int32) (v2 : Int32) : wpX_content (fun r u' => wpY_content (fun r' v' => r' = r ∧ i_Rel (k + 4) u' v') v v1 v2) u v1 v2 := by
  refine pg_el (P := fun u v => wpX_content (fun r u' => wpY_content (fun r' v' => r' = r ∧ i_Rel (k + 4) u' v') v v1 v2) u v1 v2) I ?_
  intro m ins uu ll st cx pi up lo ns ps ss lt lf iw tl tx yl ol us ls se me pl xt ot wa hW hX hY
  have I' : i_Rel (k + 4) (nI m, pi, up, lo, cx, ns, ps, ss, lt, lf, iw, tl, tx) (nI m, yl, ol, us, ls, cx, se, me, pl, xt, ot, wa) := ⟨m, ins, uu, ll, st, cx, hW, hX, hY⟩
  unfold wpX_content wpY_content
  dsimp only
  rcases pg_st v1 with h | ⟨s, hs, rfl⟩
  · exact xs_badT h (br_f (by decide) (ys_isStoreF h (br_t rfl ⟨rfl, I'⟩)))
  · have hl := pg_tn_le (R := pg_op ins uu (st s))
    refine xs_badF hs (br_t rfl (xs_write hW hX hs (fun iw' tl' tx' hX1 hw _ => ?_)))
    rcases pg_pa hl v2 with h | ⟨j, hj, rfl⟩
    · refine xs_lineAtN hs hw h (br_t rfl ?_)
      refine ys_isStoreT hs (br_f (by decide) (ys_findText hW hY.2.2.1 hY.2.2.2 hs (fun me' xt' wa' hw' hx => ?_)))
      exact br_c (fun _ => ⟨rfl, m, ins, uu, ll, st, cx, hW, hX1, hY⟩) (fun h0 => br_t (h.resolve_left h0) ⟨rfl, m, ins, uu, ll, st, cx, hW, hX1, hY⟩)
    · have htt := pg_R60 hW hs _ (pg_tt_in (pg_R60 hW hs) (pg_T (ins := ins) (uu := uu) (ll := ll) (st s)) hj)
      refine xs_lineAtS hs hw hj (br_f (pg_nm1 (by omega)) (And.intro (pg_in60 htt) ?_))
      refine ys_isStoreT hs (br_f (by decide) (ys_findText hW hY.2.2.1 hY.2.2.2 hs (fun me' xt' wa' hw' hx => ?_)))
      refine br_f (nI_pos (by omega)) (br_f (nI_ge hj (by omega)) (And.intro (pg_in60 (by omega)) ?_))
      dsimp only
      rw [pg_c (by omega), hx j hj]
      exact And.intro (pg_in60 htt) ⟨rfl, m, ins, uu, ll, st, cx, hW, hX1, hY⟩
theorem i_vc_strike {k : Nat} {u : SX} {v : SY} (I : i_Rel k u v) (hk : k + 4 ≤ 2048) (v1 : Int32) (v2 : Int32) : wpX_strike (fun r u' => wpY_strike (fun r' v' => r' = r ∧ i_Rel (k + 4) u' v') v v1 v2) u v1 v2 := by
  refine pg_el (P := fun u v => wpX_strike (fun r u' => wpY_strike (fun r' v' => r' = r ∧ i_Rel (k + 4) u' v') v v1 v2) u v1 v2) I ?_
  intro m ins uu ll st cx pi up lo ns ps ss lt lf iw tl tx yl ol us ls se me pl xt ot wa hW hX hY
  have I' : i_Rel (k + 4) (nI m, pi, up, lo, cx, ns, ps, ss, lt, lf, iw, tl, tx) (nI m, yl, ol, us, ls, cx, se, me, pl, xt, ot, wa) := ⟨m, ins, uu, ll, st, cx, hW, hX, hY⟩
  have hm := hW.1.1
  unfold wpX_strike wpY_strike
  dsimp only
  rcases pg_st v1 with h | ⟨s, hs, rfl⟩
  · exact xs_badT h (br_f (by decide) (ys_isStoreF h (br_t rfl ⟨rfl, I'⟩)))
  · have hl := pg_tn_le (R := pg_op ins uu (st s))
    refine xs_badF hs (br_t rfl (xs_write hW hX hs (fun iw' tl' tx' hX1 hw _ => ?_)))
    rcases pg_pa hl v2 with h | ⟨j, hj, rfl⟩
    · refine xs_lineAtN hs hw h (br_t rfl ?_)
      refine ys_isStoreT hs (br_f (by decide) (ys_findText hW hY.2.2.1 hY.2.2.2 hs (fun me' xt' wa' hw' hx => ?_)))
      exact br_c (fun _ => ⟨rfl, m, ins, uu, ll, st, cx, hW, hX1, hY⟩) (fun h0 => br_f (Int32.not_lt.mpr (h.resolve_left h0)) ⟨rfl, m, ins, uu, ll, st, cx, hW, hX1, hY⟩)
    · have hin := pg_op_in (pg_tt_in (pg_R60 hW hs) (pg_T (ins := ins) (uu := uu) (ll := ll) (st s)) hj)
      have htt := pg_R60 hW hs _ (pg_tt_in (pg_R60 hW hs) (pg_T (ins := ins) (uu := uu) (ll := ll) (st s)) hj)
      refine xs_lineAtS hs hw hj (br_f (pg_nm1 (by omega)) (pk_eq m 60 (fun e => ?_) (fun e => ?_)))
      · refine ys_isStoreT hs (br_f (by decide) (ys_findText hW hY.2.2.1 hY.2.2.2 hs (fun me' xt' wa' hw' hx => ?_)))
        refine br_f (nI_pos (by omega)) (br_t (nI_lt hj (by omega)) (And.intro (pg_in60 (by omega)) ?_))
        exact ys_makeF e ⟨rfl, m, ins, uu, ll, st, cx, hW, hX1, hY⟩
      · have ok : pg_ok ins (st s) false (some (pg_tt (pg_op ins uu (st s)) (pg_ld ins uu ll (st s)) j)) none := ⟨fun q h => (by cases h; exact hin), fun q h => (by cases h), fun _ => ⟨rfl, _, rfl⟩⟩
        refine xs_make (b := false) (o1 := some (pg_tt (pg_op ins uu (st s)) (pg_ld ins uu ll (st s)) j)) (o2 := none) hW hX1 hs (by omega) ok (fun u' hu => ?_)
        obtain ⟨f0, a1, a2, a3, a4, a5, a6, a7, a8, a9, a10, a11, a12⟩ := u'
        refine ys_isStoreT hs (br_f (by decide) (ys_findText hW hY.2.2.1 hY.2.2.2 hs (fun me' xt' wa' hw' hx => ?_)))
        refine br_f (nI_pos (by omega)) (br_t (nI_lt hj (by omega)) (And.intro (pg_in60 (by omega)) ?_))
        dsimp only
        rw [pg_c (by omega), hx j hj]
        refine ys_makeS (o1 := some (pg_tt (pg_op ins uu (st s)) (pg_ld ins uu ll (st s)) j)) (ct := cx) hW hY hs (by omega) (fun v' hv => ?_)
        obtain ⟨g0, g1, g2, b0, b1, b2, b3, b4, b5, b6, b7, b8⟩ := v'
        exact ⟨rfl, m + 1, _, _, _, _, _, pg_WF_new hW hs (by omega) ok, hu, hv⟩
end
section
/-! sets, pairs, equal texts -/
theorem i_vc_pull {k : Nat} {u : SX} {v : SY} (I : i_Rel k u v) (hk : k + 4 ≤ 2048) (v1 : Int32) (v2 : Int32) : wpX_pull (fun r u' => wpY_pull (fun r' v' => r' = r ∧ i_Rel (k + 4) u' v') v v1 v2) u v1 v2 := by
  refine pg_el (P := fun u v => wpX_pull (fun r u' => wpY_pull (fun r' v' => r' = r ∧ i_Rel (k + 4) u' v') v v1 v2) u v1 v2) I ?_
  intro m ins uu ll st cx pi up lo ns ps ss lt lf iw tl tx yl ol us ls se me pl xt ot wa hW hX hY
  have I' : i_Rel (k + 4) (nI m, pi, up, lo, cx, ns, ps, ss, lt, lf, iw, tl, tx) (nI m, yl, ol, us, ls, cx, se, me, pl, xt, ot, wa) := ⟨m, ins, uu, ll, st, cx, hW, hX, hY⟩
  have hm := hW.1.1
  unfold wpX_pull wpY_pull
  dsimp only
  rcases pg_st v1 with h | ⟨s, hs, rfl⟩
  · exact xs_badT h (br_f (by decide) (ys_isStoreF h (br_t rfl ⟨rfl, I'⟩)))
  · refine xs_badF hs (br_t rfl ?_)
    rcases pg_st v2 with h | ⟨t, ht, rfl⟩
    · exact xs_badT h (br_f (by decide) (ys_isStoreT hs (br_f (by decide) (ys_isStoreF h (br_t rfl ⟨rfl, I'⟩)))))
    · refine xs_badF ht (br_t rfl (br_c (fun e => ?_) (fun e => And.intro (pg_in3 hs) ?_)))
      · exact ys_isStoreT hs (br_f (by decide) (ys_isStoreT ht (br_f (by decide) (br_t e ⟨rfl, I'⟩))))
      · have hne : s ≠ t := fun z => e (by rw [z])
        rw [pg_c (by omega)]
        have hC := hW.2 s hs
        refine xs_addAll (Y := st s) hW hX ht hC (hX.2.2.2 s hs).1 (fun ps' ss' lt' lf' iw' hX1 => ?_)
        refine ys_isStoreT hs (br_f (by decide) (ys_isStoreT ht (br_f (by decide) (br_f e ⟨m + 1, ?_⟩))))
        refine ys_pull_29 (st := st) hm hs ht hne (fun q h => (hC q h).1) (fun se' hE => ⟨rfl, m, ins, uu, ll, _, cx, pg_WF_un hW ht hC, hX1, rfl, rfl, hY.2.2.1, hE⟩) (m + 1) 0 se (by omega) (by omega) ?_
        rw [pg_mg_0]
        exact hY.2.2.2
theorem i_vc_pick {k : Nat} {u : SX} {v : SY} (I : i_Rel k u v) (hk : k + 4 ≤ 2048) (v1 : Int32) (v2 : Int32) : wpX_pick (fun r u' => wpY_pick (fun r' v' => r' = r ∧ i_Rel (k + 4) u' v') v v1 v2) u v1 v2 := by
  refine pg_el (P := fun u v => wpX_pick (fun r u' => wpY_pick (fun r' v' => r' = r ∧ i_Rel (k + 4) u' v') v v1 v2) u v1 v2) I ?_
  intro m ins uu ll st cx pi up lo ns ps ss lt lf iw tl tx yl ol us ls se me pl xt ot wa hW hX hY
  have I' : i_Rel (k + 4) (nI m, pi, up, lo, cx, ns, ps, ss, lt, lf, iw, tl, tx) (nI m, yl, ol, us, ls, cx, se, me, pl, xt, ot, wa) := ⟨m, ins, uu, ll, st, cx, hW, hX, hY⟩
  have hm := hW.1.1
  unfold wpX_pick wpY_pick
  dsimp only
  rcases pg_st v2 with h | ⟨t, ht, rfl⟩
  · exact xs_badT h (br_f (by decide) (ys_isStoreF h (br_t rfl ⟨rfl, I'⟩)))
  · refine xs_badF ht (br_t rfl ?_)
    rcases pg_pa hm v1 with h | ⟨p, hp, rfl⟩
    · exact xs_noPT h (br_f (by decide) (ys_isStoreT ht (br_f (by decide) (ys_isPatchF h (br_t rfl ⟨rfl, I'⟩)))))
    · have hC := pg_CS_wn hW.1 hp
      refine xs_noPF hm hp (br_t rfl (xs_withNeeds (o := some p) hm (fun p hp => (hX.2.2.1 p hp).2.2.2) (fun q h => by cases h; exact hp) (fun y hy => ?_)))
      refine xs_addAll (Y := pg_wn uu ll (some p)) hW hX ht hC hy (fun ps' ss' lt' lf' iw' hX1 => ?_)
      refine ys_isStoreT ht (br_f (by decide) (ys_isPatchT hm hp (br_f (by decide) (ys_gather hW.1 hY.2.2.1 hp (fun me' pl' hM => ⟨m + 1, ?_⟩)))))
      refine ys_pick_32 (st := st) (Y := pg_wn uu ll (some p)) hm ht (fun q h => (hC q h).1) hM (fun se' hE => ⟨rfl, m, ins, uu, ll, _, cx, pg_WF_un hW ht hC, hX1, rfl, rfl, hY.2.2.1, hE⟩) (m + 1) 0 se (by omega) (by omega) ?_
      rw [pg_mg_0]
      exact hY.2.2.2
theorem i_vc_drop {k : Nat} {u : SX} {v : SY} (I : i_Rel k u v) (hk : k + 4 ≤ 2048) (v1 : Int32) (v2 : Int32) : wpX_drop (fun r u' => wpY_drop (fun r' v' => r' = r ∧ i_Rel (k + 4) u' v') v v1 v2) u v1 v2 := by
  refine pg_el (P := fun u v => wpX_drop (fun r u' => wpY_drop (fun r' v' => r' = r ∧ i_Rel (k + 4) u' v') v v1 v2) u v1 v2) I ?_
  intro m ins uu ll st cx pi up lo ns ps ss lt lf iw tl tx yl ol us ls se me pl xt ot wa hW hX hY
  have I' : i_Rel (k + 4) (nI m, pi, up, lo, cx, ns, ps, ss, lt, lf, iw, tl, tx) (nI m, yl, ol, us, ls, cx, se, me, pl, xt, ot, wa) := ⟨m, ins, uu, ll, st, cx, hW, hX, hY⟩
  have hm := hW.1.1
  unfold wpX_drop wpY_drop
  dsimp only
  rcases pg_st v1 with h | ⟨s, hs, rfl⟩
  · exact xs_badT h (br_f (by decide) (ys_isStoreF h (br_t rfl ⟨rfl, I'⟩)))
  · refine xs_badF hs (br_t rfl ?_)
    rcases pg_pa hm v2 with h | ⟨p, hp, rfl⟩
    · exact xs_noPT h (br_f (by decide) (ys_isStoreT hs (br_f (by decide) (ys_isPatchF h (br_t rfl ⟨rfl, I'⟩)))))
    · have hC := hW.2 s hs
      refine xs_noPF hm hp (br_t rfl (And.intro (pg_in3 hs) (xs_hasBit (by omega) ?_)))
      rw [pg_c (by omega), (hX.2.2.2 s hs).1 p]
      refine pg_br (fun e => ?_) (fun e => xs_neededIn hW hX.2.2.1 hs (hX.2.2.2 s hs).1 (fun y hy => xs_hasBit (by omega) ?_))
      · refine ys_isStoreT hs (br_f (by decide) (ys_isPatchT hm hp (br_f (by decide) (ys_hasIt hm hY.2.2.2 hs hp ?_))))
        rw [e]
        exact br_t rfl ⟨rfl, I'⟩
      · rw [hy p]
        refine pg_br (fun e2 => And.intro (pg_in3 hs) (xs_bit (by omega) (fun b hb => ?_))) (fun e2 => ?_)
        · have hY1 : pg_CS m uu ll (fun q => st s q && !decide (q = p)) := by
            intro a ha
            have z : (st s a && !decide (a = p)) = true := ha
            rw [Bool.and_eq_true] at z
            refine ⟨(hC a z.1).1, fun q hq => ?_⟩
            show (st s q && !decide (q = p)) = true
            have hn : q ≠ p := by
              intro c
              subst c
              have : pg_ne uu ll (st s) q = true := pg_B_t.mpr ((pg_nd_next hC q).mpr ⟨a, z.1, hq⟩)
              rw [this] at e2
              cases e2
            rw [(hC a z.1).2 q hq, decide_eq_false hn]
            rfl
          refine xs_rebuild (Y := fun q => st s q && !decide (q = p)) hW hX hs hY1 (fun q => by rw [pg_tb_andn, (hX.2.2.2 s hs).1, hb]) (fun ps' ss' lt' lf' iw' hX1 => ?_)
          refine And.intro (pg_in3 hs) (xs_bitsOf ?_)
          refine ys_isStoreT hs (br_f (by decide) (ys_isPatchT hm hp (br_f (by decide) (ys_hasIt hm hY.2.2.2 hs hp ?_))))
          rw [e]
          refine br_f (by decide) (ys_isNeeded hW hY.2.2.1 hY.2.2.2 hs hp ?_)
          rw [e2]
          refine br_t rfl (And.intro (pg_in180 hs (by omega)) ?_)
          rw [pg_c180 hs (by omega), pg_vn0]
          have hE1 : pg_SY m (pg_rn st s (fun q => st s q && !decide (q = p))) (upd se (60 * s + p) (pg_b false)) := by
            intro t ht q hq
            by_cases c : t = s
            · subst c
              rw [pg_rn_s]
              by_cases d : q = p
              · subst d
                rw [pk_us, decide_eq_true rfl, Bool.not_true, Bool.and_false]
              · rw [pk_un (by omega), decide_eq_false d, Bool.not_false, Bool.and_true]
                exact hY.2.2.2 t ht q hq
            · rw [pg_rn_n c, pk_un (by omega)]
              exact hY.2.2.2 t ht q hq
          refine nm_e (ys_count (st := pg_rn st s (fun q => st s q && !decide (q = p))) hm hE1 hs ⟨?_, m, ins, uu, ll, _, cx, pg_WF_rn hW hY1, hX1, rfl, rfl, hY.2.2.1, hE1⟩)
          dsimp only
          rw [pg_cnt64 hm (hX1.2.2.2 s hs).1 (fun q h => by
            rw [pg_rn_s] at h
            exact (hY1 q h).1)]
        · refine ys_isStoreT hs (br_f (by decide) (ys_isPatchT hm hp (br_f (by decide) (ys_hasIt hm hY.2.2.2 hs hp ?_))))
          rw [e]
          refine br_f (by decide) (ys_isNeeded hW hY.2.2.1 hY.2.2.2 hs hp ?_)
          rw [e2]
          exact br_f (by decide) ⟨rfl, I'⟩
theorem i_vc_conflicts {k : Nat} {u : SX} {v : SY} (I : i_Rel k u v) (hk : k + 4 ≤ 2048) (v1 : Int32) : wpX_conflicts (fun r => wpY_conflicts (fun r' v' => r' = r ∧ i_Rel (k + 4) u v') v v1) u v1 := by
  refine pg_el (P := fun u v => wpX_conflicts (fun r => wpY_conflicts (fun r' v' => r' = r ∧ i_Rel (k + 4) u v') v v1) u v1) I ?_
  intro m ins uu ll st cx pi up lo ns ps ss lt lf iw tl tx yl ol us ls se me pl xt ot wa hW hX hY
  have I' : i_Rel (k + 4) (nI m, pi, up, lo, cx, ns, ps, ss, lt, lf, iw, tl, tx) (nI m, yl, ol, us, ls, cx, se, me, pl, xt, ot, wa) := ⟨m, ins, uu, ll, st, cx, hW, hX, hY⟩
  have hm := hW.1.1
  unfold wpX_conflicts wpY_conflicts
  dsimp only
  rcases pg_st v1 with h | ⟨s, hs, rfl⟩
  · exact xs_badT h (br_f (by decide) (ys_isStoreF h (br_t rfl ⟨rfl, I'⟩)))
  · have hR : ∀ a, pg_op ins uu (st s) a = true → a < m := fun a h => (hW.2 s hs a (pg_op_in h).1).1
    have hSs := hX.2.2.2 s hs
    have hl := pg_tn_le (R := pg_op ins uu (st s))
    refine xs_badF hs (br_t rfl (xs_linesOf hm hX.2.2.1 hs hSs.1 hSs.2.1 (hW.2 s hs) (fun y hy => ⟨m + 1, ?_⟩)))
    refine xs_conf_23 (R := pg_op ins uu (st s)) (L := pg_ld ins uu ll (st s)) hm hs hR (pg_T (st s)) (fun a ha c => hSs.2.2.1 a (by
      have z := pg_op_in ha
      show (st s a && ins a) = true
      rw [z.1, z.2]; rfl) c) hy ?_ (m + 1) 0 (by omega) (by omega)
    unfold wpY_countPairs
    refine ys_isStoreT hs (br_f (by decide) (ys_findText hW hY.2.2.1 hY.2.2.2 hs (fun me' xt' wa' hw' hx => ⟨61, ?_⟩)))
    exact ys_cp_10 (rg := false) (R := pg_op ins uu (st s)) (L := pg_ld ins uu ll (st s)) (pg_R60 hW hs) (pg_T (st s)) (fun p hp c => hw' p (hR p hp) c) hx ⟨rfl, m, ins, uu, ll, st, cx, hW, hX, hY⟩ 61 0 (by omega) (by omega)
theorem i_vc_rings {k : Nat} {u : SX} {v : SY} (I : i_Rel k u v) (hk : k + 4 ≤ 2048) (v1 : Int32) : wpX_rings (fun r => wpY_rings (fun r' v' => r' = r ∧ i_Rel (k + 4) u v') v v1) u v1 := by
  refine pg_el (P := fun u v => wpX_rings (fun r => wpY_rings (fun r' v' => r' = r ∧ i_Rel (k + 4) u v') v v1) u v1) I ?_
  intro m ins uu ll st cx pi up lo ns ps ss lt lf iw tl tx yl ol us ls se me pl xt ot wa hW hX hY
  have I' : i_Rel (k + 4) (nI m, pi, up, lo, cx, ns, ps, ss, lt, lf, iw, tl, tx) (nI m, yl, ol, us, ls, cx, se, me, pl, xt, ot, wa) := ⟨m, ins, uu, ll, st, cx, hW, hX, hY⟩
  have hm := hW.1.1
  unfold wpX_rings wpY_rings
  dsimp only
  rcases pg_st v1 with h | ⟨s, hs, rfl⟩
  · exact xs_badT h (br_f (by decide) (ys_isStoreF h (br_t rfl ⟨rfl, I'⟩)))
  · have hR : ∀ a, pg_op ins uu (st s) a = true → a < m := fun a h => (hW.2 s hs a (pg_op_in h).1).1
    have hSs := hX.2.2.2 s hs
    have hl := pg_tn_le (R := pg_op ins uu (st s))
    refine xs_badF hs (br_t rfl (xs_linesOf hm hX.2.2.1 hs hSs.1 hSs.2.1 (hW.2 s hs) (fun y hy => ⟨m + 1, ?_⟩)))
    refine xs_ring_23 (R := pg_op ins uu (st s)) (L := pg_ld ins uu ll (st s)) hm hs hR (pg_T (st s)) (fun a ha c => hSs.2.2.1 a (by
      have z := pg_op_in ha
      show (st s a && ins a) = true
      rw [z.1, z.2]; rfl) c) hy ?_ (m + 1) 0 (by omega) (by omega)
    unfold wpY_countPairs
    refine ys_isStoreT hs (br_f (by decide) (ys_findText hW hY.2.2.1 hY.2.2.2 hs (fun me' xt' wa' hw' hx => ⟨61, ?_⟩)))
    exact ys_cp_10 (rg := true) (R := pg_op ins uu (st s)) (L := pg_ld ins uu ll (st s)) (pg_R60 hW hs) (pg_T (st s)) (fun p hp c => hw' p (hR p hp) c) hx ⟨rfl, m, ins, uu, ll, st, cx, hW, hX, hY⟩ 61 0 (by omega) (by omega)
/-! before -/
noncomputable def pg_be (ins : Nat → Bool) (uu ll : Nat → Option Nat) (S : Nat → Bool) (a b : Nat) : Bool := (S a && ins a) && ((S b && ins b) && (pg_ld ins uu ll S a b && !pg_ld ins uu ll S b a))
section
variable {m : Nat} {ins : Nat → Bool} {uu ll : Nat → Option Nat} {st : Nat → Nat → Bool} {ct : Nat → Int32} {s a b : Nat}
theorem xs_before {post : Int32 → Prop} {pi up lo cx : Nat → Int32} {ns ps ss lt lf : Nat → Int64} {iw tl tx : Nat → Int32} (hW : pg_WF m ins uu ll st) (hX : pg_RX m ins uu ll st ct (nI m, pi, up, lo, cx, ns, ps, ss, lt, lf, iw, tl, tx)) (hs : s < 3) (ha : a < m) (hb : b < m) (k : post (pg_b (pg_be ins uu ll (st s) a b))) : wpX_before post (nI m, pi, up, lo, cx, ns, ps, ss, lt, lf, iw, tl, tx) (nI s) (nI a) (nI b) := by
  have hm := hW.1.1
  have hSs := hX.2.2.2 s hs
  unfold pg_be at k
  unfold wpX_before
  dsimp only
  refine xs_badF hs (br_t rfl (xs_noPF hm ha (br_t rfl (xs_noPF hm hb (br_t rfl (xs_isLine hm hX.2.2.1 hs hSs.1 ha ?_))))))
  refine pg_br (fun e => ?_) (fun e => xs_isLine hm hX.2.2.1 hs hSs.1 hb ?_)
  · rw [e] at k
    exact br_t rfl k
  · rw [e, Bool.true_and] at k
    refine pg_br (fun e2 => ?_) (fun e2 => ?_)
    · rw [e2] at k
      exact br_t rfl k
    · rw [e2, Bool.true_and] at k
      have ra := fun c => hSs.2.2.1 a e c
      have rb := fun c => hSs.2.2.1 b e2 c
      unfold wX_before_47
      refine br_f (by decide) ?_
      unfold wpX_isBefore
      dsimp only
      refine And.intro (pg_in180 hs (by omega)) (xs_hasBit (by omega) ?_)
      rw [pg_c180 hs (by omega), (ra b).1]
      refine pg_br (fun e3 => ?_) (fun e3 => And.intro (pg_in180 hs (by omega)) (xs_hasBit (by omega) ?_))
      · rw [e3] at k
        exact br_t rfl k
      · rw [e3, Bool.true_and] at k
        rw [pg_c180 hs (by omega), (rb a).1]
        refine pg_br (fun e4 => ?_) (fun e4 => ?_)
        · rw [e4] at k
          exact br_f (by decide) k
        · rw [e4] at k
          exact br_t rfl k
theorem ys_before {post : Int32 → SY → Prop} {yl ol : Int32} {us ls cy se me pl xt ot : Nat → Int32} {wa : Nat → Int64} (hW : pg_WF m ins uu ll st) (hY : pg_RY m ins uu ll st ct (nI m, yl, ol, us, ls, cy, se, me, pl, xt, ot, wa)) (hs : s < 3) (ha : a < m) (hb : b < m) (k : ∀ v', pg_RY m ins uu ll st ct v' → post (pg_b (pg_be ins uu ll (st s) a b)) v') : wpY_before post (nI m, yl, ol, us, ls, cy, se, me, pl, xt, ot, wa) (nI s) (nI a) (nI b) := by
  have hm := hW.1.1
  have hE := hY.2.2.2
  have k0 : pg_be ins uu ll (st s) a b = false → post 0 (nI m, yl, ol, us, ls, cy, se, me, pl, xt, ot, wa) := fun e => by
    have z := k _ hY
    rw [e] at z
    exact z
  unfold wpY_before
  dsimp only
  refine ys_isStoreT hs (br_f (by decide) (ys_isPatchT hm ha (br_f (by decide) (ys_isPatchT hm hb (br_f (by decide) (pk_eq a b (fun e => k0 ?_) (fun e => ys_hasIt hm hE hs ha ?_)))))))
  · subst e
    unfold pg_be
    cases pg_ld ins uu ll (st s) a a <;> simp
  · refine pg_br (fun e1 => k0 ?_) (fun e1 => ys_hasIt hm hE hs hb ?_)
    · unfold pg_be
      rw [e1]; rfl
    · refine pg_br (fun e2 => k0 ?_) (fun e2 => ys_isLine hW.1 hY.2.2.1 ha ?_)
      · unfold pg_be
        rw [e2]; simp
      · refine pg_br (fun e3 => k0 ?_) (fun e3 => ys_isLine hW.1 hY.2.2.1 hb ?_)
        · unfold pg_be
          rw [e3]; simp
        · refine pg_br (fun e4 => k0 ?_) (fun e4 => ys_findWays hW hY.2.2.1 hE hs (fun wa' hw => ?_))
          · unfold pg_be
            rw [e4]; simp
          · refine ys_isBefore (by omega) (by omega) ?_
            rw [hw a ha, hw b hb]
            refine And.intro (pg_b_nar _) ?_
            have z := k (nI m, yl, ol, us, ls, cy, se, me, pl, xt, ot, wa') hY
            unfold pg_be at z
            rw [e1, e2, e3, e4] at z
            exact z
end
theorem i_vc_before {k : Nat} {u : SX} {v : SY} (I : i_Rel k u v) (hk : k + 4 ≤ 2048) (v1 : Int32) (v2 : Int32) (v3 : Int32) : wpX_before (fun r => wpY_before (fun r' v' => r' = r ∧ i_Rel (k + 4) u v') v v1 v2 v3) u v1 v2 v3 := by
  refine pg_el (P := fun u v => wpX_before (fun r => wpY_before (fun r' v' => r' = r ∧ i_Rel (k + 4) u v') v v1 v2 v3) u v1 v2 v3) I ?_
  intro m ins uu ll st cx pi up lo ns ps ss lt lf iw tl tx yl ol us ls se me pl xt ot wa hW hX hY
  have I' : i_Rel (k + 4) (nI m, pi, up, lo, cx, ns, ps, ss, lt, lf, iw, tl, tx) (nI m, yl, ol, us, ls, cx, se, me, pl, xt, ot, wa) := ⟨m, ins, uu, ll, st, cx, hW, hX, hY⟩
  have hm := hW.1.1
  rcases pg_st v1 with h | ⟨s, hs, rfl⟩
  · unfold wpX_before wpY_before
    dsimp only
    exact xs_badT h (br_f (by decide) (br_t rfl (ys_isStoreF h (br_t rfl ⟨rfl, I'⟩))))
  · rcases pg_pa hm v2 with h | ⟨a, ha, rfl⟩
    · unfold wpX_before wpY_before
      dsimp only
      exact xs_badF hs (br_t rfl (xs_noPT h (br_f (by decide) (br_t rfl (ys_isStoreT hs (br_f (by decide) (ys_isPatchF h (br_t rfl ⟨rfl, I'⟩))))))))
    · rcases pg_pa hm v3 with h | ⟨b, hb, rfl⟩
      · unfold wpX_before wpY_before
        dsimp only
        exact xs_badF hs (br_t rfl (xs_noPF hm ha (br_t rfl (xs_noPT h (br_f (by decide) (br_t rfl (ys_isStoreT hs (br_f (by decide) (ys_isPatchT hm ha (br_f (by decide) (ys_isPatchF h (br_t rfl ⟨rfl, I'⟩))))))))))))
      · exact xs_before hW hX hs ha hb (ys_before hW hY hs ha hb (fun v' hv => ⟨rfl, m, ins, uu, ll, st, cx, hW, hX, hv⟩))
theorem i_vc_alike {k : Nat} {u : SX} {v : SY} (I : i_Rel k u v) (hk : k + 4 ≤ 2048) (v1 : Int32) (v2 : Int32) : wpX_alike (fun r u' => wpY_alike (fun r' v' => r' = r ∧ i_Rel (k + 4) u' v') v v1 v2) u v1 v2 := by
  refine pg_el (P := fun u v => wpX_alike (fun r u' => wpY_alike (fun r' v' => r' = r ∧ i_Rel (k + 4) u' v') v v1 v2) u v1 v2) I ?_
  intro m ins uu ll st cx pi up lo ns ps ss lt lf iw tl tx yl ol us ls se me pl xt ot wa hW hX hY
  have I' : i_Rel (k + 4) (nI m, pi, up, lo, cx, ns, ps, ss, lt, lf, iw, tl, tx) (nI m, yl, ol, us, ls, cx, se, me, pl, xt, ot, wa) := ⟨m, ins, uu, ll, st, cx, hW, hX, hY⟩
  have hm := hW.1.1
  unfold wpX_alike wpY_alike
  dsimp only
  rcases pg_st v1 with h | ⟨s, hs, rfl⟩
  · exact xs_badT h (br_f (by decide) (ys_isStoreF h (br_t rfl ⟨rfl, I'⟩)))
  · refine xs_badF hs (br_t rfl ?_)
    rcases pg_st v2 with h | ⟨t, ht, rfl⟩
    · exact xs_badT h (br_f (by decide) (ys_isStoreT hs (br_f (by decide) (ys_isStoreF h (br_t rfl ⟨rfl, I'⟩)))))
    · refine xs_badF ht (br_t rfl (xs_write hW hX hs (fun iw1 tl1 tx1 hX1 hw1 _ => ?_)))
      refine xs_write hW hX1 ht (fun iw2 tl2 tx2 hX2 hw2 kp => ?_)
      have hw1' := kp s hs hw1
      have hl1 := pg_tn_le (R := pg_op ins uu (st s))
      have hl2 := pg_tn_le (R := pg_op ins uu (st t))
      have hT1 : ∀ k, k < pg_tn (pg_op ins uu (st s)) → pg_tt (pg_op ins uu (st s)) (pg_ld ins uu ll (st s)) k < 60 := fun k hk => pg_R60 hW hs _ (pg_tt_in (pg_R60 hW hs) (pg_T (st s)) hk)
      have hT2 : ∀ k, k < pg_tn (pg_op ins uu (st t)) → pg_tt (pg_op ins uu (st t)) (pg_ld ins uu ll (st t)) k < 60 := fun k hk => pg_R60 hW ht _ (pg_tt_in (pg_R60 hW ht) (pg_T (st t)) hk)
      have yy : wpY_alike (fun r' v' => r' = pg_b (pg_al (pg_tn (pg_op ins uu (st s))) (pg_tn (pg_op ins uu (st t))) (fun k => cx (pg_tt (pg_op ins uu (st s)) (pg_ld ins uu ll (st s)) k)) (fun k => cx (pg_tt (pg_op ins uu (st t)) (pg_ld ins uu ll (st t)) k))) ∧ i_Rel (k + 4) (nI m, pi, up, lo, cx, ns, ps, ss, lt, lf, iw2, tl2, tx2) v') (nI m, yl, ol, us, ls, cx, se, me, pl, xt, ot, wa) (nI s) (nI t) := by
        unfold wpY_alike
        refine ys_isStoreT hs (br_f (by decide) (ys_isStoreT ht (br_f (by decide) (ys_findText hW hY.2.2.1 hY.2.2.2 hs (fun me1 xt1 wa1 hy1 hx1 => ⟨61, ?_⟩)))))
        refine ys_al_33 (N := pg_tn (pg_op ins uu (st s))) (T := pg_tt (pg_op ins uu (st s)) (pg_ld ins uu ll (st s))) hl1 (fun k hk => ⟨hT1 k hk, hx1 k hk⟩) (fun ot1 ho => ?_) 61 0 ot (by omega) (by omega) (fun k hk => by omega)
        refine ys_findText hW hY.2.2.1 hY.2.2.2 ht (fun me2 xt2 wa2 hy2 hx2 => ?_)
        have fin : ∀ f : Bool, (f = true ↔ (pg_tn (pg_op ins uu (st s)) = pg_tn (pg_op ins uu (st t)) ∧ ∀ k, k < 0 → cx (pg_tt (pg_op ins uu (st s)) (pg_ld ins uu ll (st s)) k) = cx (pg_tt (pg_op ins uu (st t)) (pg_ld ins uu ll (st t)) k))) → wY_alike_89 (fun r' v' => r' = pg_b (pg_al (pg_tn (pg_op ins uu (st s))) (pg_tn (pg_op ins uu (st t))) (fun k => cx (pg_tt (pg_op ins uu (st s)) (pg_ld ins uu ll (st s)) k)) (fun k => cx (pg_tt (pg_op ins uu (st t)) (pg_ld ins uu ll (st t)) k))) ∧ i_Rel (k + 4) (nI m, pi, up, lo, cx, ns, ps, ss, lt, lf, iw2, tl2, tx2) v') (nI m) (nI (pg_tn (pg_op ins uu (st t)))) (nI (pg_tn (pg_op ins uu (st s)))) us ls cx se me2 pl xt2 ot1 wa2 61 (pg_b f) (nI 0) := by
          intro f hf
          exact ys_al_89 (N := pg_tn (pg_op ins uu (st s))) (N' := pg_tn (pg_op ins uu (st t))) (T := pg_tt (pg_op ins uu (st t)) (pg_ld ins uu ll (st t))) (g := fun k => cx (pg_tt (pg_op ins uu (st s)) (pg_ld ins uu ll (st s)) k)) hl2 (fun k hk => ⟨hT2 k hk, hx2 k hk⟩) ho ⟨rfl, m, ins, uu, ll, st, cx, hW, hX2, hY⟩ 61 0 f (by omega) (by omega) hf
        refine pk_eq (pg_tn (pg_op ins uu (st s))) (pg_tn (pg_op ins uu (st t))) (fun e => ⟨61, fin true ⟨fun _ => ⟨e, fun k hk => by omega⟩, fun _ => rfl⟩⟩) (fun e => ⟨61, fin false ⟨fun z => (by cases z), fun z => absurd z.1 e⟩⟩)
      refine And.intro (pg_in3 hs) (And.intro (pg_in3 ht) ?_)
      dsimp only
      rw [pg_c (by omega), pg_c (by omega), hw1'.1, hw2.1]
      have fin : ∀ f : Bool, (f = true ↔ (pg_tn (pg_op ins uu (st s)) = pg_tn (pg_op ins uu (st t)) ∧ ∀ k, k < 0 → cx (pg_tt (pg_op ins uu (st s)) (pg_ld ins uu ll (st s)) k) = cx (pg_tt (pg_op ins uu (st t)) (pg_ld ins uu ll (st t)) k))) → wX_alike_52 (fun r u' => wpY_alike (fun r' v' => r' = r ∧ i_Rel (k + 4) u' v') (nI m, yl, ol, us, ls, cx, se, me, pl, xt, ot, wa) (nI s) (nI t)) (nI s) (nI t) (nI m) pi up lo cx ns ps ss lt lf iw2 tl2 tx2 61 (pg_b f) (nI 0) := by
        intro f hf
        exact xs_al_52 (N := pg_tn (pg_op ins uu (st s))) (N' := pg_tn (pg_op ins uu (st t))) (T := pg_tt (pg_op ins uu (st s)) (pg_ld ins uu ll (st s))) (T' := pg_tt (pg_op ins uu (st t)) (pg_ld ins uu ll (st t))) hl1 hs ht hw1'.1 (fun k hk => ⟨hT1 k hk, hw1'.2 k hk⟩) (fun k hk => ⟨hT2 k hk, hw2.2 k hk⟩) yy 61 0 f (by omega) (by omega) hf
      refine pk_eq (pg_tn (pg_op ins uu (st s))) (pg_tn (pg_op ins uu (st t))) (fun e => ⟨61, fin true ⟨fun _ => ⟨e, fun k hk => by omega⟩, fun _ => rfl⟩⟩) (fun e => ⟨61, fin false ⟨fun z => (by cases z), fun z => absurd z.1 e⟩⟩)
end
