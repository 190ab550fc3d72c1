section
/-! Int32 by its bits (began as the kit's BITS.to-paste, family 'Int32 by its bits', renamed) -/
def cf_bt (x : Int32) (i : Nat) : Bool := x.toBitVec.getLsbD i
theorem cf_ext {x y : Int32} (h : ∀ i, i < 32 → cf_bt x i = cf_bt y i) : x = y := Int32.toBitVec_inj.mp (BitVec.eq_of_getLsbD_eq (fun i hi => h i hi))
theorem cf_or (x y : Int32) (i : Nat) : cf_bt (x ||| y) i = (cf_bt x i || cf_bt y i) := by unfold cf_bt; rw [Int32.toBitVec_or, BitVec.getLsbD_or]
theorem cf_and (x y : Int32) (i : Nat) : cf_bt (x &&& y) i = (cf_bt x i && cf_bt y i) := by unfold cf_bt; rw [Int32.toBitVec_and, BitVec.getLsbD_and]
theorem cf_xor (x y : Int32) (i : Nat) : cf_bt (x ^^^ y) i = (cf_bt x i ^^ cf_bt y i) := by unfold cf_bt; rw [Int32.toBitVec_xor, BitVec.getLsbD_xor]
theorem cf_big {x : Int32} {i : Nat} (h : 32 ≤ i) : cf_bt x i = false := BitVec.getLsbD_of_ge _ _ h
theorem cf_b65535 (i : Nat) : cf_bt 65535 i = decide (i < 16) := by
  rcases Nat.lt_or_ge i 32 with h | h
  · exact (by decide +kernel : ∀ i, i < 32 → cf_bt 65535 i = decide (i < 16)) i h
  · rw [cf_big h, decide_eq_false (by omega)]
theorem cf_b0 (i : Nat) : cf_bt 0 i = false := BitVec.getLsbD_zero
theorem cf_sl : ∀ n, n < 32 → ((nI n &&& 31).toBitVec.smod 32).toNat = n := by decide +kernel
theorem cf_su : ∀ n, n < 32 → (((nI n).toUInt32 &&& Int32.toUInt32 31).toBitVec % 32).toNat = n := by decide +kernel
theorem cf_shl (n : Nat) (hn : n < 32) (x : Int32) {i : Nat} (hi : i < 32) : cf_bt (x <<< (nI n &&& 31)) i = (decide (n ≤ i) && cf_bt x (i - n)) := by
  unfold cf_bt
  rw [Int32.toBitVec_shiftLeft]
  show (x.toBitVec <<< ((nI n &&& 31).toBitVec.smod 32).toNat).getLsbD i = _
  rw [cf_sl n hn, BitVec.getLsbD_shiftLeft]
  rcases Nat.lt_or_ge i n with h | h
  · simp [h, Nat.not_le.mpr h]
  · simp [hi, h, Nat.not_lt.mpr h]
theorem cf_ushr (n : Nat) (hn : n < 32) (x : Int32) (i : Nat) : cf_bt ((x.toUInt32 >>> ((nI n).toUInt32 &&& Int32.toUInt32 31)).toInt32) i = cf_bt x (n + i) := by
  show (x.toUInt32 >>> ((nI n).toUInt32 &&& Int32.toUInt32 31)).toBitVec.getLsbD i = x.toUInt32.toBitVec.getLsbD (n + i)
  rw [UInt32.toBitVec_shiftRight]
  show (x.toUInt32.toBitVec >>> (((nI n).toUInt32 &&& Int32.toUInt32 31).toBitVec % 32).toNat).getLsbD i = _
  rw [cf_su n hn, BitVec.getLsbD_ushiftRight]
theorem cf_nx (a b : Nat) : nI a ^^^ nI b = nI (a ^^^ b) := by
  apply Int32.toBitVec_inj.1
  show BitVec.ofNat 32 a ^^^ BitVec.ofNat 32 b = BitVec.ofNat 32 (a ^^^ b)
  apply BitVec.eq_of_getLsbD_eq
  intro i hi
  simp [hi]
/-! one bit, and a bit put -/
theorem cf_b1 : ∀ i, i < 32 → cf_bt 1 i = decide (i = 0) := by decide +kernel
theorem cf_bn : ∀ b : Bool, ∀ i, i < 32 → cf_bt (nI b.toNat) i = (b && decide (i = 0)) := by decide +kernel
theorem cf_bS : ∀ S, S < 32 → ∀ i, i < 32 → cf_bt (nI S) i = S.testBit i := by decide +kernel
theorem cf_one (k : Nat) (hk : k < 32) (x : Int32) : ((x.toUInt32 >>> ((nI k).toUInt32 &&& Int32.toUInt32 31)).toInt32 &&& 1) = nI (cf_bt x k).toNat := by
  apply cf_ext
  intro i hi
  rw [cf_and, cf_ushr k hk, cf_b1 i hi, cf_bn _ i hi]
  by_cases e : i = 0
  · rw [e, Nat.add_zero]
  · rw [decide_eq_false e, Bool.and_false, Bool.and_false]
theorem cf_nb0 (b : Bool) : nI b.toNat = 0 ↔ b = false := by cases b <;> decide
theorem cf_put1 (s x : Int32) (k p : Nat) (hk : k < 32) (hp : p < 32) {i : Nat} (hi : i < 32) : cf_bt (s ||| (((x.toUInt32 >>> ((nI k).toUInt32 &&& Int32.toUInt32 31)).toInt32 &&& 1) <<< (nI p &&& 31))) i = (cf_bt s i || (decide (i = p) && cf_bt x k)) := by
  rw [cf_or, cf_one k hk, cf_shl p hp _ hi, cf_bn _ (i - p) (by omega)]
  by_cases e : i = p
  · rw [decide_eq_true e, decide_eq_true (show p ≤ i by omega), decide_eq_true (show i - p = 0 by omega), Bool.true_and, Bool.true_and, Bool.and_true]
  · rw [decide_eq_false e, Bool.false_and]
    by_cases e2 : p ≤ i
    · rw [decide_eq_false (show ¬ i - p = 0 by omega), Bool.and_false, Bool.and_false]
    · rw [decide_eq_false e2, Bool.false_and]
def cf_sh (b : Nat) : Int32 := (1 : Int32) <<< (nI b &&& 31)
theorem cf_bsh (b : Nat) (hb : b < 32) (i : Nat) : cf_bt (cf_sh b) i = decide (i = b) := by
  rcases Nat.lt_or_ge i 32 with h | h
  · unfold cf_sh
    rw [cf_shl b hb _ h, cf_b1 (i - b) (by omega)]
    by_cases e : i = b
    · rw [decide_eq_true e, decide_eq_true (show b ≤ i by omega), decide_eq_true (show i - b = 0 by omega)]; rfl
    · rw [decide_eq_false e]
      by_cases e2 : b ≤ i
      · rw [decide_eq_false (show ¬ i - b = 0 by omega), Bool.and_false]
      · rw [decide_eq_false e2, Bool.false_and]
  · rw [cf_big h, decide_eq_false (by omega)]
theorem cf_sh2 : ∀ b, b < 5 → (1 : Int32) <<< (nI b &&& 31) = nI (2 ^ b) := by decide +kernel
theorem cf_xx (x y : Int32) : (x ^^^ y) ^^^ y = x := by
  apply cf_ext
  intro i hi
  rw [cf_xor, cf_xor]
  cases cf_bt x i <;> cases cf_bt y i <;> rfl
theorem cf_0x (x : Int32) : 0 ^^^ x = x := by
  apply cf_ext
  intro i hi
  rw [cf_xor, cf_b0]
  cases cf_bt x i <;> rfl
theorem cf_x0 (x : Int32) : x ^^^ 0 = x := by
  apply cf_ext
  intro i hi
  rw [cf_xor, cf_b0]
  cases cf_bt x i <;> rfl
theorem cf_xs (x : Int32) : x ^^^ x = 0 := by
  apply cf_ext
  intro i hi
  rw [cf_xor, cf_b0]
  cases cf_bt x i <;> rfl
theorem cf_xm (x y : Int32) : (x ^^^ y) ^^^ x = y := by
  apply cf_ext
  intro i hi
  rw [cf_xor, cf_xor]
  cases cf_bt x i <;> cases cf_bt y i <;> rfl
end
section
/-! the code, over bits alone: ones, the syndrome, the evenness -/
def cf_on (f : Nat → Bool) : Nat → Nat
  | 0 => 0
  | k + 1 => cf_on f k + (f k).toNat
def cf_sy (f : Nat → Bool) : Nat → Nat
  | 0 => 0
  | k + 1 => cf_sy f k ^^^ (if f k = true then k else 0)
def cf_pa (f : Nat → Bool) : Nat → Bool
  | 0 => false
  | k + 1 => cf_pa f k ^^ f k
theorem cf_on_c {f g : Nat → Bool} (n : Nat) (h : ∀ i, i < n → f i = g i) : cf_on f n = cf_on g n := by
  induction n with
  | zero => rfl
  | succ n ih =>
    show cf_on f n + (f n).toNat = cf_on g n + (g n).toNat
    rw [ih (fun i hi => h i (by omega)), h n (by omega)]
theorem cf_sy_c {f g : Nat → Bool} (n : Nat) (h : ∀ i, i < n → f i = g i) : cf_sy f n = cf_sy g n := by
  induction n with
  | zero => rfl
  | succ n ih =>
    show cf_sy f n ^^^ (if f n = true then n else 0) = cf_sy g n ^^^ (if g n = true then n else 0)
    rw [ih (fun i hi => h i (by omega)), h n (by omega)]
theorem cf_pa_c {f g : Nat → Bool} (n : Nat) (h : ∀ i, i < n → f i = g i) : cf_pa f n = cf_pa g n := by
  induction n with
  | zero => rfl
  | succ n ih =>
    show (cf_pa f n ^^ f n) = (cf_pa g n ^^ g n)
    rw [ih (fun i hi => h i (by omega)), h n (by omega)]
theorem cf_ite (b : Bool) (n i : Nat) : (if b = true then n else 0).testBit i = (b && n.testBit i) := by
  cases b
  · rw [if_neg (by decide), Nat.zero_testBit, Bool.false_and]
  · rw [if_pos rfl, Bool.true_and]
theorem cf_bx5 : ∀ a b c d e : Bool, ((a ^^ b) ^^ ((c ^^ d) && e)) = ((a ^^ (c && e)) ^^ (b ^^ (d && e))) := by decide
theorem cf_bx4 : ∀ a b c d : Bool, ((a ^^ b) ^^ (c ^^ d)) = ((a ^^ c) ^^ (b ^^ d)) := by decide
theorem cf_sy_x (f g : Nat → Bool) (n : Nat) : cf_sy (fun i => f i ^^ g i) n = cf_sy f n ^^^ cf_sy g n := by
  induction n with
  | zero => exact (Nat.xor_self 0).symm
  | succ n ih =>
    show cf_sy (fun i => f i ^^ g i) n ^^^ (if (f n ^^ g n) = true then n else 0) = (cf_sy f n ^^^ (if f n = true then n else 0)) ^^^ (cf_sy g n ^^^ (if g n = true then n else 0))
    rw [ih]
    apply Nat.eq_of_testBit_eq
    intro i
    rw [Nat.testBit_xor, Nat.testBit_xor, Nat.testBit_xor, Nat.testBit_xor, Nat.testBit_xor, cf_ite, cf_ite, cf_ite]
    exact cf_bx5 _ _ _ _ _
theorem cf_pa_x (f g : Nat → Bool) (n : Nat) : cf_pa (fun i => f i ^^ g i) n = (cf_pa f n ^^ cf_pa g n) := by
  induction n with
  | zero => rfl
  | succ n ih =>
    show (cf_pa (fun i => f i ^^ g i) n ^^ (f n ^^ g n)) = ((cf_pa f n ^^ f n) ^^ (cf_pa g n ^^ g n))
    rw [ih]
    exact cf_bx4 _ _ _ _
theorem cf_sy_lt (f : Nat → Bool) (n : Nat) (hn : n ≤ 32) : cf_sy f n < 32 := by
  induction n with
  | zero => exact (by decide : 0 < 32)
  | succ n ih =>
    show cf_sy f n ^^^ (if f n = true then n else 0) < 2 ^ 5
    refine Nat.xor_lt_two_pow (ih (by omega)) ?_
    split <;> omega
theorem cf_on_le (f : Nat → Bool) (n : Nat) : cf_on f n ≤ n := by
  induction n with
  | zero => exact Nat.le_refl 0
  | succ n ih =>
    show cf_on f n + (f n).toNat ≤ n + 1
    have := Bool.toNat_le (f n)
    omega
theorem cf_par2 : ∀ p q : Bool, (p.toNat + q.toNat) % 2 = (p ^^ q).toNat := by decide
theorem cf_on_pa (f : Nat → Bool) (n : Nat) : cf_on f n % 2 = (cf_pa f n).toNat := by
  induction n with
  | zero => rfl
  | succ n ih =>
    show (cf_on f n + (f n).toNat) % 2 = (cf_pa f n ^^ f n).toNat
    rw [← cf_par2, ← ih]
    omega
theorem cf_onp (f : Nat → Bool) : nI (cf_on f 22) &&& 1 = nI (cf_pa f 22).toNat := by
  have h := cf_on_le f 22
  rw [pk_andN (by omega) 1 (by decide), show 2 ^ 1 = 2 from rfl, cf_on_pa]
theorem cf_sy_s : ∀ b, b < 22 → cf_sy (fun i => decide (i = b)) 22 = b := by decide +kernel
theorem cf_pa_s : ∀ b, b < 22 → cf_pa (fun i => decide (i = b)) 22 = true := by decide +kernel
theorem cf_on_s {f : Nat → Bool} {c : Nat} (h : f c = false) (n : Nat) : cf_on (fun i => f i ^^ decide (i = c)) n = cf_on f n + (if c < n then 1 else 0) := by
  induction n with
  | zero => rw [if_neg (by omega)]; rfl
  | succ n ih =>
    show cf_on (fun i => f i ^^ decide (i = c)) n + (f n ^^ decide (n = c)).toNat = cf_on f n + (f n).toNat + _
    rw [ih]
    by_cases e : n = c
    · rw [e, h, if_neg (by omega), if_pos (by omega), decide_eq_true rfl]; rfl
    · rw [decide_eq_false e, Bool.xor_false]
      by_cases z : c < n
      · rw [if_pos z, if_pos (by omega)]; omega
      · rw [if_neg z, if_neg (by omega)]; omega
/-! the places -/
def cf_d (p : Nat) : Bool := decide ((p &&& (p - 1)) ≠ 0)
def cf_k : Nat → Nat
  | 0 => 0
  | p + 1 => cf_k p + (cf_d p).toNat
theorem cf_chk : ∀ p, p < 22 → ((nI p &&& (nI p - 1)) = 0 ↔ cf_d p = false) := by decide +kernel
theorem cf_k_le : ∀ p, p < 23 → cf_k p ≤ 16 := by decide +kernel
theorem cf_k_lt : ∀ p, p < 22 → cf_d p = true → cf_k p < 16 := by decide +kernel
theorem cf_k_mono : ∀ p, p < 22 → ∀ i, i < p → cf_d i = true → cf_k i < cf_k p := by decide +kernel
theorem cf_k_onto : ∀ j, j < 16 → ∃ i, i < 22 ∧ cf_d i = true ∧ cf_k i = j := by decide +kernel
theorem cf_k1 {p : Nat} (h : cf_d p = true) : cf_k (p + 1) = cf_k p + 1 := by
  show cf_k p + (cf_d p).toNat = _
  rw [h]; rfl
theorem cf_k0 {p : Nat} (h : cf_d p = false) : cf_k (p + 1) = cf_k p := by
  show cf_k p + (cf_d p).toNat = _
  rw [h]; rfl
theorem cf_tf {b : Bool} (h : ¬ b = false) : b = true := by cases b <;> first | rfl | exact absurd rfl h
theorem cf_ft {b : Bool} (h : ¬ b = true) : b = false := by cases b <;> first | rfl | exact absurd rfl h
/-- the checks of a syndrome S, the first b of them -/
def cf_ck (S : Nat) : Nat → Nat → Bool
  | 0 => fun _ => false
  | b + 1 => fun i => cf_ck S b i || (decide (i = 2 ^ b) && S.testBit b)
theorem cf_ck_sy : ∀ S, S < 32 → cf_sy (cf_ck S 5) 22 = S := by decide +kernel
theorem cf_ck_d : ∀ S, S < 32 → ∀ i, i < 22 → cf_ck S 5 i = true → cf_d i = false := by decide +kernel
theorem cf_ck_0 : ∀ S, S < 32 → cf_ck S 5 0 = false := by decide +kernel
/-- c is the code word of v -/
def cf_C (v c : Int32) : Prop := cf_sy (cf_bt c) 22 = 0 ∧ cf_pa (cf_bt c) 22 = false ∧ ∀ i, i < 22 → cf_d i = true → cf_bt c i = cf_bt v (cf_k i)
theorem cf_p0_sy : ∀ P : Bool, cf_sy (fun i => P && decide (i = 0)) 22 = 0 := by decide +kernel
theorem cf_p0_pa : ∀ P : Bool, cf_pa (fun i => P && decide (i = 0)) 22 = P := by decide +kernel
theorem cf_mk {v c1 c2 c3 : Int32} (h1 : ∀ i, i < 32 → cf_bt c1 i = (decide (i < 22) && cf_d i && cf_bt v (cf_k i)))
    (h2 : ∀ i, i < 32 → cf_bt c2 i = (cf_bt c1 i || cf_ck (cf_sy (cf_bt c1) 22) 5 i))
    (h3 : ∀ i, i < 32 → cf_bt c3 i = (cf_bt c2 i || (cf_pa (cf_bt c2) 22 && decide (i = 0)))) : cf_C v c3 := by
  have hS := cf_sy_lt (cf_bt c1) 22 (by omega)
  have sy1 := cf_ck_sy _ hS
  have ckd := cf_ck_d _ hS
  have ck0 := cf_ck_0 _ hS
  have e2 : ∀ i, i < 22 → cf_bt c2 i = (cf_bt c1 i ^^ cf_ck (cf_sy (cf_bt c1) 22) 5 i) := by
    intro i hi
    rw [h2 i (by omega)]
    by_cases hc : cf_ck (cf_sy (cf_bt c1) 22) 5 i = true
    · have hd := ckd i hi hc
      rw [h1 i (by omega), hd, Bool.and_false, Bool.false_and, hc]; rfl
    · rw [cf_ft hc, Bool.or_false, Bool.xor_false]
  have sy2 : cf_sy (cf_bt c2) 22 = 0 := by
    rw [cf_sy_c 22 e2, cf_sy_x, sy1, Nat.xor_self]
  have z0 : cf_bt c2 0 = false := by
    rw [h2 0 (by omega), ck0, h1 0 (by omega)]; rfl
  have e3 : ∀ i, i < 22 → cf_bt c3 i = (cf_bt c2 i ^^ (cf_pa (cf_bt c2) 22 && decide (i = 0))) := by
    intro i hi
    rw [h3 i (by omega)]
    by_cases e : i = 0
    · rw [e, z0, Bool.false_or, Bool.false_xor]
    · rw [decide_eq_false e, Bool.and_false, Bool.or_false, Bool.xor_false]
  refine ⟨?_, ?_, ?_⟩
  · rw [cf_sy_c 22 e3, cf_sy_x, sy2, cf_p0_sy]; rfl
  · rw [cf_pa_c 22 e3, cf_pa_x, cf_p0_pa, Bool.xor_self]
  · intro i hi hd
    have e : ¬ i = 0 := by
      intro z
      rw [z] at hd
      exact absurd hd (by decide)
    have hc : cf_ck (cf_sy (cf_bt c1) 22) 5 i = false := cf_ft (fun z => absurd (ckd i hi z) (by rw [hd]; decide))
    rw [e3 i hi, decide_eq_false e, Bool.and_false, Bool.xor_false, h2 i (by omega), hc, Bool.or_false, h1 i (by omega), hd, decide_eq_true hi]; rfl
/-! a word with bits turned -/
theorem cf_sy_t (x : Int32) {b : Nat} (hb : b < 22) : cf_sy (cf_bt (x ^^^ cf_sh b)) 22 = cf_sy (cf_bt x) 22 ^^^ b := by
  rw [cf_sy_c (g := fun i => cf_bt x i ^^ decide (i = b)) 22 (fun i _ => by rw [cf_xor, cf_bsh b (by omega)]), cf_sy_x, cf_sy_s b hb]
theorem cf_pa_t (x : Int32) {b : Nat} (hb : b < 22) : cf_pa (cf_bt (x ^^^ cf_sh b)) 22 = (cf_pa (cf_bt x) 22 ^^ true) := by
  rw [cf_pa_c (g := fun i => cf_bt x i ^^ decide (i = b)) 22 (fun i _ => by rw [cf_xor, cf_bsh b (by omega)]), cf_pa_x, cf_pa_s b hb]
theorem cf_on_t (x : Int32) {b : Nat} (hb : b < 22) (h : cf_bt x b = false) : cf_on (cf_bt (x ^^^ cf_sh b)) 22 = cf_on (cf_bt x) 22 + 1 := by
  rw [cf_on_c (g := fun i => cf_bt x i ^^ decide (i = b)) 22 (fun i _ => by rw [cf_xor, cf_bsh b (by omega)]), cf_on_s h, if_pos hb]
theorem cf_on0 : cf_on (cf_bt 0) 22 = 0 := by decide +kernel
theorem cf_on1 {a : Nat} (ha : a < 22) : cf_on (cf_bt (cf_sh a)) 22 = 1 := by
  have h := cf_on_t 0 ha (cf_b0 a)
  rw [cf_0x, cf_on0] at h
  exact h
theorem cf_on2 {a b : Nat} (ha : a < 22) (hb : b < 22) (e : a ≠ b) : cf_on (cf_bt (cf_sh a ^^^ cf_sh b)) 22 = 2 := by
  rw [cf_on_t _ hb (by rw [cf_bsh a (by omega), decide_eq_false (fun z => e z.symm)]), cf_on1 ha]
theorem cf_on3 {a b c : Nat} (ha : a < 22) (hb : b < 22) (hc : c < 22) (e : a ≠ b) (e1 : c ≠ a) (e2 : c ≠ b) : cf_on (cf_bt ((cf_sh a ^^^ cf_sh b) ^^^ cf_sh c)) 22 = 3 := by
  rw [cf_on_t _ hc (by rw [cf_xor, cf_bsh a (by omega), cf_bsh b (by omega), decide_eq_false e1, decide_eq_false e2]; rfl), cf_on2 ha hb e]
end
section
/-! the code's methods: ones, isCheck, syndrome, encode, decode -/
theorem cf_isSector {post : Int32 → Prop} {s : Nat} (hs : s < 16) (h : post 1) : wpX_isSector post () (nI s) :=
  pk_lt s 0 (fun z => absurd z (by omega)) (fun _ => pk_lt 15 s (fun z => absurd z (by omega)) (fun _ => h))
theorem cf_isCheck {post : Int32 → Prop} {p : Nat} (hp : p < 22) (h1 : cf_d p = false → post 1) (h0 : cf_d p = true → post 0) : wpX_isCheck post () (nI p) :=
  ⟨fun z => h1 ((cf_chk p hp).mp z), fun z => h0 (cf_tf (fun e => z ((cf_chk p hp).mpr e)))⟩
theorem cf_ones {post : Int32 → Prop} {x : Int32} (h : post (nI (cf_on (cf_bt x) 22))) : wpX_ones post () x :=
  pk_loop (fun n i s => wX_ones_4 post x n s (nI i)) (fun i s => s = nI (cf_on (cf_bt x) i)) 22 0 0 (by omega) rfl
    (fun n s hs => pk_le 22 22 (fun _ => by rw [hs]; exact h) (fun z => absurd z (by omega)))
    (fun n i s hi hs hw => pk_le 22 i (fun z => absurd z (by omega)) (fun _ => nm_e (nm_r (nI_1 i) (hw _ (by rw [hs, cf_one i (by omega), nI_add]; rfl)))))
theorem cf_sy1 (f : Nat → Bool) : (0 : Int32) = nI (cf_sy f 1) := by
  show (0 : Int32) = nI (0 ^^^ (if f 0 = true then 0 else 0))
  rw [ite_self]
  rfl
theorem cf_sy_F {f : Nat → Bool} {k : Nat} (h : f k = false) : cf_sy f (k + 1) = cf_sy f k := by
  show cf_sy f k ^^^ (if f k = true then k else 0) = _
  rw [h, if_neg (by decide), Nat.xor_zero]
theorem cf_sy_T {f : Nat → Bool} {k : Nat} (h : f k = true) : cf_sy f (k + 1) = cf_sy f k ^^^ k := by
  show cf_sy f k ^^^ (if f k = true then k else 0) = _
  rw [h, if_pos rfl]
theorem cf_syn {post : Int32 → Prop} {x : Int32} (h : post (nI (cf_sy (cf_bt x) 22))) : wpX_syndrome post () x :=
  pk_loop (fun n i s => wX_syndrome_4 post x n s (nI i)) (fun i s => s = nI (cf_sy (cf_bt x) i)) 22 1 0 (by omega) (cf_sy1 _)
    (fun n s hs => pk_le 22 22 (fun _ => by rw [hs]; exact h) (fun z => absurd z (by omega)))
    (fun n i s hi hs hw => pk_le 22 i (fun z => absurd z (by omega)) (fun _ => ek_if (show _ ↔ cf_bt x i = false by rw [cf_one i (by omega)]; exact cf_nb0 _)
      (fun z => nm_e (nm_r (nI_1 i) (hw _ (by rw [cf_x0, hs, cf_sy_F z]))))
      (fun z => nm_e (nm_r (nI_1 i) (hw _ (by rw [hs, cf_nx, cf_sy_T (cf_tf z)]))))))
/-! encode -/
theorem cf_e46 {post : Int32 → Prop} {v c1 : Int32} (h1 : ∀ i, i < 32 → cf_bt c1 i = (decide (i < 22) && cf_d i && cf_bt v (cf_k i)))
    (H : ∀ c, cf_C v c → post c) : ∃ n, wX_encode_46 post (nI (cf_sy (cf_bt c1) 22)) n c1 0 := by
  have hS := cf_sy_lt (cf_bt c1) 22 (by omega)
  refine pk_loop (fun n b s => wX_encode_46 post (nI (cf_sy (cf_bt c1) 22)) n s (nI b)) (fun b s => ∀ i, i < 32 → cf_bt s i = (cf_bt c1 i || cf_ck (cf_sy (cf_bt c1) 22) b i)) 5 0 c1 (by omega) (fun i _ => (Bool.or_false _).symm) (fun n s hs => ?_) (fun n b s hb hs hw => ?_)
  · refine pk_le 5 5 (fun _ => cf_ones (H _ (cf_mk h1 hs (fun i hi => ?_)))) (fun z => absurd z (by omega))
    rw [cf_or, cf_onp, cf_bn _ i hi]
  · refine pk_le 5 b (fun z => absurd z (by omega)) (fun _ => nm_e (nm_r (nI_1 b) (hw _ (fun i hi => ?_))))
    have hp : 2 ^ b < 32 := Nat.pow_lt_pow_right (a := 2) (by decide) hb
    rw [cf_sh2 b hb, cf_put1 _ _ b (2 ^ b) (by omega) hp hi, hs i hi, cf_bS _ hS b (by omega), Bool.or_assoc]
    rfl
theorem cf_encode {post : Int32 → Prop} {v : Int32} (H : ∀ c, cf_C v c → post c) : wpX_encode post () v := by
  have L := pk_loop (fun n p s => wX_encode_6 post v n s (nI (cf_k p)) (nI p)) (fun p s => ∀ i, i < 32 → cf_bt s i = (decide (i < p) && cf_d i && cf_bt v (cf_k i))) 22 1 0 (by omega) ?_ (fun n s hs => ?_) (fun n p s hp hs hw => ?_)
  · exact L
  · intro i hi
    rw [cf_b0]
    by_cases e : i = 0
    · rw [e]; rfl
    · rw [decide_eq_false (show ¬ i < 1 by omega)]; rfl
  · exact pk_le 22 22 (fun _ => cf_syn (cf_e46 hs H)) (fun z => absurd z (by omega))
  · refine pk_le 22 p (fun z => absurd z (by omega)) (fun _ => cf_isCheck hp (fun hd => br_f (by decide) (nm_r (nI_1 p) ?_)) (fun hd => br_t rfl (nm_e (nm_r (nI_1 _) (nm_r (nI_1 p) ?_)))))
    · have t := hw s (fun i hi => ?_)
      · rw [cf_k0 hd] at t
        exact t
      · rw [hs i hi]
        by_cases e : i = p
        · rw [e, hd, Bool.and_false, Bool.and_false]
        · rw [decide_eq_decide.mpr (show i < p ↔ i < p + 1 by omega)]
    · have hk := cf_k_lt p hp hd
      have t := hw (s ||| (((v.toUInt32 >>> ((nI (cf_k p)).toUInt32 &&& Int32.toUInt32 31)).toInt32 &&& 1) <<< (nI p &&& 31))) (fun i hi => ?_)
      · rw [cf_k1 hd] at t
        exact t
      · rw [cf_put1 _ _ _ _ (by omega) (by omega) hi, hs i hi]
        by_cases e : i = p
        · rw [e, hd, decide_eq_true rfl, decide_eq_true (show p < p + 1 by omega), decide_eq_false (show ¬ p < p by omega)]; rfl
        · rw [decide_eq_false e, Bool.false_and, Bool.or_false, decide_eq_decide.mpr (show i < p ↔ i < p + 1 by omega)]
/-! decode -/
theorem cf_d54 {post : Int32 → Prop} {x v : Int32} (hx : ∀ i, i < 22 → cf_d i = true → cf_bt x i = cf_bt v (cf_k i)) (hv : ∀ j, 16 ≤ j → cf_bt v j = false) (h : post v) : ∃ n, wX_decode_54 post x n 0 0 1 := by
  have L := pk_loop (fun n p s => wX_decode_54 post x n s (nI (cf_k p)) (nI p)) (fun p s => (∀ i, i < p → cf_d i = true → cf_bt s (cf_k i) = cf_bt x i) ∧ (∀ j, cf_k p ≤ j → j < 32 → cf_bt s j = false)) 22 1 0 (by omega) ?_ (fun n s hs => ?_) (fun n p s hp hs hw => ?_)
  · exact L
  · refine ⟨fun i hi hd => ?_, fun j _ _ => cf_b0 j⟩
    have e : i = 0 := by omega
    rw [e] at hd
    exact absurd hd (by decide)
  · refine pk_le 22 22 (fun _ => ?_) (fun z => absurd z (by omega))
    have e : s = v := by
      apply cf_ext
      intro j hj
      by_cases z : j < 16
      · obtain ⟨i, h1, h2, h3⟩ := cf_k_onto j z
        rw [← h3, hs.1 i h1 h2, hx i h1 h2]
      · rw [hv j (by omega), hs.2 j (by show 16 ≤ j; omega) hj]
    rw [e]
    exact h
  · refine pk_le 22 p (fun z => absurd z (by omega)) (fun _ => cf_isCheck hp (fun hd => br_f (by decide) (nm_r (nI_1 p) ?_)) (fun hd => br_t rfl (nm_e (nm_r (nI_1 _) (nm_r (nI_1 p) ?_)))))
    · have t := hw s ⟨fun i hi hdi => hs.1 i (by
          have : i ≠ p := fun e => by rw [e, hd] at hdi; exact absurd hdi (by decide)
          omega) hdi, fun j hj hj2 => hs.2 j (by rw [cf_k0 hd] at hj; exact hj) hj2⟩
      rw [cf_k0 hd] at t
      exact t
    · have hk := cf_k_lt p hp hd
      have t := hw (s ||| (((x.toUInt32 >>> ((nI p).toUInt32 &&& Int32.toUInt32 31)).toInt32 &&& 1) <<< (nI (cf_k p) &&& 31))) ⟨fun i hi hdi => ?_, fun j hj hj2 => ?_⟩
      · rw [cf_k1 hd] at t
        exact t
      · by_cases e : i = p
        · rw [e, cf_put1 _ _ _ _ (by omega) (by omega) (by omega), hs.2 _ (Nat.le_refl _) (by omega), decide_eq_true rfl]; rfl
        · have hm := cf_k_mono p hp i (by omega) hdi
          rw [cf_put1 _ _ _ _ (by omega) (by omega) (by omega), decide_eq_false (show ¬ cf_k i = cf_k p by omega), Bool.false_and, Bool.or_false]
          exact hs.1 i (by omega) hdi
      · rw [cf_k1 hd] at hj
        rw [cf_put1 _ _ _ _ (by omega) (by omega) hj2, decide_eq_false (show ¬ j = cf_k p by omega), Bool.false_and, Bool.or_false]
        exact hs.2 j (by omega) hj2
theorem cf_dec0 {post : Int32 → Prop} {v c : Int32} (hC : cf_C v c) (hv : ∀ j, 16 ≤ j → cf_bt v j = false) (h : post v) : wpX_decode post () c := by
  obtain ⟨h1, h2, h3⟩ := hC
  refine cf_syn (cf_ones ?_)
  rw [h1, cf_onp, h2]
  exact br_t rfl (br_t rfl (br_t rfl (br_t rfl (cf_d54 h3 hv h))))
theorem cf_dec1 {post : Int32 → Prop} {v c : Int32} {b : Nat} (hb : b < 22) (hC : cf_C v c) (hv : ∀ j, 16 ≤ j → cf_bt v j = false) (h : post v) : wpX_decode post () (c ^^^ cf_sh b) := by
  obtain ⟨h1, h2, h3⟩ := hC
  refine cf_syn (cf_ones ?_)
  rw [cf_sy_t _ hb, h1, Nat.zero_xor, cf_onp, cf_pa_t _ hb, h2]
  exact br_f (by decide) (br_f (by decide) (br_f (by decide) (nm_r (cf_xx c (cf_sh b)) (cf_d54 h3 hv h))))
theorem cf_dec2 {post : Int32 → Prop} {v c : Int32} {a b : Nat} (ha : a < 22) (hb : b < 22) (e : a ≠ b) (hC : cf_C v c) (h : post (-3)) : wpX_decode post () (c ^^^ (cf_sh a ^^^ cf_sh b)) := by
  obtain ⟨h1, h2, h3⟩ := hC
  have ex : c ^^^ (cf_sh a ^^^ cf_sh b) = (c ^^^ cf_sh a) ^^^ cf_sh b := by
    apply cf_ext
    intro i _
    rw [cf_xor, cf_xor, cf_xor, cf_xor]
    cases cf_bt c i <;> cases cf_bt (cf_sh a) i <;> cases cf_bt (cf_sh b) i <;> rfl
  refine cf_syn (cf_ones ?_)
  rw [ex, cf_sy_t _ hb, cf_sy_t _ ha, h1, Nat.zero_xor, cf_onp, cf_pa_t _ hb, cf_pa_t _ ha, h2]
  have hn : a ^^^ b ≠ 0 := fun z => e (by
    have := congrArg (fun t => t ^^^ b) z
    simpa [Nat.xor_assoc] using this)
  have hl : a ^^^ b < 2 ^ 5 := Nat.xor_lt_two_pow (by omega) (by omega)
  exact br_t rfl (br_t rfl (br_f (nI_ne0 (by omega) (by omega)) h))
end
section
/-! the flash: the constructor -/
theorem cf_fill {f s : Nat → Int32} {i k : Nat} {x : Int32} (hk : k = i) (h : ∀ j, j < i → s j = f j) (hx : x = f i) : ∀ j, j < i + 1 → upd s k x j = f j := by
  intro j hj
  rw [hk]
  by_cases e : j = i
  · rw [e, pk_us, hx]
  · rw [pk_un e]
    exact h j (by omega)
theorem cf_fc97 {post : St2 → Prop} {ns : Int64} {a1 a2 : Nat → Int32} {a3 : Nat → Int64} {a4 a5 a6 : Nat → Int32} (h1 : ∀ j, a1 j = 0) (h : post (0, 0, ns, a1, a2, a3, a4, a5, a6)) : ∃ n, wX_findCurrent_97 post 0 ns a1 a2 a3 a4 a5 a6 n 0 0 :=
  pk_loop (σ := Unit) (fun n i _ => wX_findCurrent_97 post 0 ns a1 a2 a3 a4 a5 a6 n (nI i) 0) (fun _ _ => True) 4 0 () (by omega) trivial
    (fun n _ _ => pk_le 4 4 (fun _ => h) (fun z => absurd z (by omega)) (by decide))
    (fun n i _ hi _ hw => pk_le 4 i (fun z => absurd z (by omega)) (fun _ => ⟨pk_in i 32 (by omega), br_t (h1 _) (nm_r (show (0 : Int32) + 0 = 0 by decide) (nm_r (nI_1 i) (hw () trivial)))⟩) (by decide))
theorem cf_fc49 {post : St2 → Prop} {ns : Int64} {a1 a2 : Nat → Int32} {a3 : Nat → Int64} {a4 a5 a6 : Nat → Int32} (h1 : ∀ j, a1 j = 0) (h : post (0, 0, ns, a1, a2, a3, a4, a5, a6)) : ∃ n, wX_findCurrent_49 post 0 ns a1 a2 a3 a4 a5 a6 n 0 0 :=
  pk_loop (σ := Unit) (fun n i _ => wX_findCurrent_49 post 0 ns a1 a2 a3 a4 a5 a6 n (nI i) 0) (fun _ _ => True) 8 0 () (by omega) trivial
    (fun n _ _ => pk_le 8 8 (fun _ => nm_r (show (4 : Int32) * 0 = 0 by decide) (cf_fc97 h1 h)) (fun z => absurd z (by omega)))
    (fun n i _ hi _ hw => pk_le 8 i (fun z => absurd z (by omega)) (fun _ => ⟨pk_in (4 * i) 32 (by omega) (pk_mul 4 i), br_t (h1 _) (nm_r (nI_1 i) (hw () trivial))⟩))
theorem cf_fc {post : St2 → Prop} {fc ff : Int32} {ns : Int64} {a1 a2 : Nat → Int32} {a3 : Nat → Int64} {a4 a5 a6 : Nat → Int32} (h1 : ∀ j, a1 j = 0) (h : post (0, 0, ns, a1, a2, a3, a4, a5, a6)) : wpX_findCurrent post (fc, ff, ns, a1, a2, a3, a4, a5, a6) :=
  pk_loop (σ := Unit) (fun n i _ => wX_findCurrent_12 post 0 ns a1 a2 a3 a4 a5 a6 n (nI i) 0) (fun _ _ => True) 8 0 () (by omega) trivial
    (fun n _ _ => pk_le 8 8 (fun _ => cf_fc49 h1 h) (fun z => absurd z (by omega)))
    (fun n i _ hi _ hw => pk_le 8 i (fun z => absurd z (by omega)) (fun _ => ⟨pk_in (4 * i) 32 (by omega) (pk_mul 4 i), br_t (h1 _) (nm_r (nI_1 i) (hw () trivial))⟩))
theorem cf_p28 {post : St2 → Prop} {fc ff : Int32} {ns : Int64} {a1 a2 : Nat → Int32} {a3 : Nat → Int64} {a4 a5 a6 : Nat → Int32} (h1 : ∀ j, a1 j = 0) (h : post (0, 0, ns, a1, a2, a3, a4, a5, a6)) : ∃ n, wX_power_28 post fc ff n 0 ns a1 a2 a3 a4 a5 a6 :=
  pk_loop (σ := Unit) (fun n i _ => wX_power_28 post fc ff n (nI i) ns a1 a2 a3 a4 a5 a6) (fun _ _ => True) 32 0 () (by omega) trivial
    (fun n _ _ => pk_le 32 32 (fun _ => cf_fc h1 h) (fun z => absurd z (by omega)))
    (fun n i _ hi _ hw => pk_le 32 i (fun z => absurd z (by omega)) (fun _ => ⟨pk_in i 32 (by omega), br_t (h1 _) (nm_r (nI_1 i) (hw () trivial))⟩))
theorem cf_power {post : St2 → Prop} {fc ff : Int32} {ns : Int64} {a1 a2 : Nat → Int32} {a3 : Nat → Int64} {a4 a5 a6 : Nat → Int32} (h1 : ∀ j, a1 j = 0) (h : ∀ nw : Nat → Int32, (∀ j, j < 16 → nw j = -1) → post (0, 0, 1, a1, a2, a3, a4, a5, nw)) : wpX_power post (fc, ff, ns, a1, a2, a3, a4, a5, a6) :=
  pk_loop (fun n i s => wX_power_7 post fc ff 1 n (nI i) a1 a2 a3 a4 a5 s) (fun i s => ∀ j, j < i → s j = -1) 16 0 a6 (by omega) (fun j hj => absurd hj (by omega))
    (fun n s hs => pk_le 16 16 (fun _ => cf_p28 h1 (h s hs)) (fun z => absurd z (by omega)))
    (fun n i s hi hs hw => pk_le 16 i (fun z => absurd z (by omega)) (fun _ => ⟨pk_in i 16 (by omega), nm_e (nm_r (nI_1 i) (hw _ (cf_fill (f := fun _ => -1) (nI_clamp (by omega)) hs rfl)))⟩))
theorem cf_init {post : St2 → Prop} (h : ∀ nw : Nat → Int32, (∀ j, j < 16 → nw j = -1) → post (0, 0, 1, (fun _ => 0), (fun _ => 0), (fun _ => 0), (fun _ => 0), (fun _ => 0), nw)) : wpX_init post 6 176 (0, 0, 0) :=
  ⟨by omega, by omega, by omega, by omega, by omega, by omega, by omega, by omega, by omega, by omega, by omega, by omega, cf_power (fun _ => rfl) h⟩
/-! the flash holds one written sector s, its newest page g: the word w, turned t -/
def cf_P (s g : Nat) (w t : Int32) (a1 a4 a5 a6 : Nat → Int32) : Prop := a1 g = 1 ∧ a4 g = w ∧ a5 g = t ∧ a6 s = nI g ∧ ∀ j, j < 16 → j ≠ s → a6 j = -1
theorem cf_put {post : St2 → Prop} {s q : Nat} {c : Int32} {ns : Int64} {a1 a2 : Nat → Int32} {a3 : Nat → Int64} {a4 a5 a6 : Nat → Int32} (hs : s < 16) (hq : q < 4) (ho : ∀ j, j < 16 → j ≠ s → a6 j = -1)
    (H : ∀ (ns : Int64) (a1 a2 : Nat → Int32) (a3 : Nat → Int64) (a4 a5 a6 : Nat → Int32), cf_P s q c 0 a1 a4 a5 a6 → post (0, nI (q + 1), ns, a1, a2, a3, a4, a5, a6)) :
    wpX_put post (0, nI q, ns, a1, a2, a3, a4, a5, a6) (nI s) 1 c 0 := by
  have e : (4 : Int32) * 0 + nI q = nI q := by
    show nI 4 * nI 0 + nI q = nI q
    rw [pk_mul, nI_add]
    exact congrArg nI (by omega)
  have cq : (nI q).toNatClampNeg = q := nI_clamp (by omega)
  have cs : (nI s).toNatClampNeg = s := nI_clamp (by omega)
  refine nm_r e ⟨pk_in q 32 (by omega), nm_e ⟨pk_in q 32 (by omega), nm_e ⟨pk_in q 32 (by omega), nm_e ⟨pk_in q 32 (by omega), nm_e ⟨pk_in q 32 (by omega), nm_e (nm_e (nm_r (nI_1 q) ⟨pk_in s 16 hs, nm_e (H _ _ _ _ _ _ _ ?_)⟩))⟩⟩⟩⟩⟩
  refine ⟨?_, ?_, ?_, ?_, fun j hj hne => ?_⟩
  · rw [cq, pk_us]
  · rw [cq, pk_us]
  · rw [cq, pk_us]
  · rw [cs, pk_us]
  · rw [cs, pk_un hne]
    exact ho j hj hne
theorem cf_write {post : Int32 → St2 → Prop} {s q : Nat} {x : Int32} {ns : Int64} {a1 a2 : Nat → Int32} {a3 : Nat → Int64} {a4 a5 a6 : Nat → Int32} (hs : s < 16) (hq : q < 4) (ho : ∀ j, j < 16 → j ≠ s → a6 j = -1)
    (H : ∀ (c : Int32) (ns : Int64) (a1 a2 : Nat → Int32) (a3 : Nat → Int64) (a4 a5 a6 : Nat → Int32), cf_C (x &&& 65535) c → cf_P s q c 0 a1 a4 a5 a6 → post 0 (0, nI (q + 1), ns, a1, a2, a3, a4, a5, a6)) :
    wpX_write post (0, nI q, ns, a1, a2, a3, a4, a5, a6) (nI s) x := by
  unfold wpX_write
  exact cf_isSector hs (br_f (by decide) (cf_encode (fun c hC => pk_eq q 4 (fun z => absurd z (by omega)) (fun _ => cf_put hs hq ho (fun ns a1 a2 a3 a4 a5 a6 hP => H c ns a1 a2 a3 a4 a5 a6 hC hP)))))
theorem cf_isWritten {post : Int32 → Prop} {s g : Nat} {w t fc ff : Int32} {ns : Int64} {a1 a2 : Nat → Int32} {a3 : Nat → Int64} {a4 a5 a6 : Nat → Int32} (hs : s < 16) (hg : g < 32) (hP : cf_P s g w t a1 a4 a5 a6) (h : post 1) : wpX_isWritten post (fc, ff, ns, a1, a2, a3, a4, a5, a6) (nI s) := by
  have e6 : a6 (nI s).toNatClampNeg = nI g := by rw [nI_clamp (by omega)]; exact hP.2.2.2.1
  have e1 : a1 (a6 (nI s).toNatClampNeg).toNatClampNeg = 1 := by rw [e6, nI_clamp (by omega)]; exact hP.1
  exact ⟨pk_in s 16 hs, pk_lt g 0 (fun z => absurd z (by omega)) (fun _ => ⟨pk_in s 16 hs, pk_in g 32 hg e6, br_t e1 h⟩) e6⟩
theorem cf_turn {post : Int32 → St2 → Prop} {s g b : Nat} {w t fc ff : Int32} {ns : Int64} {a1 a2 : Nat → Int32} {a3 : Nat → Int64} {a4 a5 a6 : Nat → Int32} (hs : s < 16) (hg : g < 32) (hb : b < 22) (hP : cf_P s g w t a1 a4 a5 a6)
    (H1 : cf_on (cf_bt (t ^^^ cf_sh b)) 22 ≤ 2 → ∀ a5' : Nat → Int32, cf_P s g w (t ^^^ cf_sh b) a1 a4 a5' a6 → post (nI (cf_on (cf_bt (t ^^^ cf_sh b)) 22)) (fc, ff, ns, a1, a2, a3, a4, a5', a6))
    (H2 : 2 < cf_on (cf_bt (t ^^^ cf_sh b)) 22 → post (-3) (fc, ff, ns, a1, a2, a3, a4, a5, a6)) :
    wpX_turn post (fc, ff, ns, a1, a2, a3, a4, a5, a6) (nI s) (nI b) := by
  have e6 : a6 (nI s).toNatClampNeg = nI g := by rw [nI_clamp (by omega)]; exact hP.2.2.2.1
  have cg : (nI g).toNatClampNeg = g := nI_clamp (by omega)
  have e5 : a5 (nI g).toNatClampNeg ^^^ ((1 : Int32) <<< (nI b &&& 31)) = t ^^^ cf_sh b := by rw [cg, hP.2.2.1]; rfl
  have hl := cf_on_le (cf_bt (t ^^^ cf_sh b)) 22
  unfold wpX_turn
  refine cf_isSector hs (br_f (by decide) (pk_lt b 0 (fun z => absurd z (by omega)) (fun _ => pk_le b 21 (fun _ => cf_isWritten hs hg hP (br_f (by decide) ⟨pk_in s 16 hs, nm_r e6 ⟨pk_in g 32 hg, nm_r e5 (cf_ones (pk_le _ 2 (fun z => ⟨pk_in g 32 hg, nm_e (H1 z _ ?_)⟩) (fun z => H2 z)))⟩⟩)) (fun z => absurd z (by omega)))))
  refine ⟨hP.1, hP.2.1, ?_, hP.2.2.2.1, hP.2.2.2.2⟩
  rw [cg, pk_us]
theorem cf_turnG {post : Int32 → St2 → Prop} {s g b n : Nat} {w t t' fc ff : Int32} {ns : Int64} {a1 a2 : Nat → Int32} {a3 : Nat → Int64} {a4 a5 a6 : Nat → Int32} (hs : s < 16) (hg : g < 32) (hb : b < 22) (hP : cf_P s g w t a1 a4 a5 a6)
    (ht : t ^^^ cf_sh b = t') (hn : cf_on (cf_bt t') 22 = n) (h2 : n ≤ 2) (H : ∀ a5' : Nat → Int32, cf_P s g w t' a1 a4 a5' a6 → post (nI n) (fc, ff, ns, a1, a2, a3, a4, a5', a6)) :
    wpX_turn post (fc, ff, ns, a1, a2, a3, a4, a5, a6) (nI s) (nI b) := by
  subst ht
  subst hn
  exact cf_turn hs hg hb hP (fun _ => H) (fun z => absurd z (by omega))
theorem cf_turnB {post : Int32 → St2 → Prop} {s g b : Nat} {w t fc ff : Int32} {ns : Int64} {a1 a2 : Nat → Int32} {a3 : Nat → Int64} {a4 a5 a6 : Nat → Int32} (hs : s < 16) (hg : g < 32) (hb : b < 22) (hP : cf_P s g w t a1 a4 a5 a6)
    (hn : 2 < cf_on (cf_bt (t ^^^ cf_sh b)) 22) (H : post (-3) (fc, ff, ns, a1, a2, a3, a4, a5, a6)) :
    wpX_turn post (fc, ff, ns, a1, a2, a3, a4, a5, a6) (nI s) (nI b) :=
  cf_turn hs hg hb hP (fun z => absurd z (by omega)) (fun _ => H)
/-- what the page's word decodes to -/
def cf_D (w t D : Int32) : Prop := ∀ post : Int32 → Prop, post D → wpX_decode post () (w ^^^ t)
theorem cf_readS {post : Int32 → Prop} {s g : Nat} {w t D fc ff : Int32} {ns : Int64} {a1 a2 : Nat → Int32} {a3 : Nat → Int64} {a4 a5 a6 : Nat → Int32} (hs : s < 16) (hg : g < 32) (hP : cf_P s g w t a1 a4 a5 a6) (hD : cf_D w t D) (h : post D) : wpX_read post (fc, ff, ns, a1, a2, a3, a4, a5, a6) (nI s) := by
  have e6 : a6 (nI s).toNatClampNeg = nI g := by rw [nI_clamp (by omega)]; exact hP.2.2.2.1
  have cg : (nI g).toNatClampNeg = g := nI_clamp (by omega)
  have e1 : ¬ a1 (nI g).toNatClampNeg = 2 := by rw [cg, hP.1]; decide
  unfold wpX_read
  refine cf_isSector hs (br_f (by decide) ⟨pk_in s 16 hs, nm_r e6 (pk_lt g 0 (fun z => absurd z (by omega)) (fun _ => ⟨pk_in g 32 hg, br_f e1 ⟨pk_in g 32 hg, pk_in g 32 hg, ?_⟩⟩))⟩)
  rw [cg, hP.2.1, hP.2.2.1]
  exact hD _ h
theorem cf_readO {post : Int32 → Prop} {s g j : Nat} {w t fc ff : Int32} {ns : Int64} {a1 a2 : Nat → Int32} {a3 : Nat → Int64} {a4 a5 a6 : Nat → Int32} (hj : j < 16) (hne : j ≠ s) (hP : cf_P s g w t a1 a4 a5 a6) (h : post (-2)) : wpX_read post (fc, ff, ns, a1, a2, a3, a4, a5, a6) (nI j) := by
  have e6 : a6 (nI j).toNatClampNeg = -1 := by rw [nI_clamp (by omega)]; exact hP.2.2.2.2 j hj hne
  unfold wpX_read
  exact cf_isSector hj (br_f (by decide) ⟨pk_in j 16 hj, nm_r e6 (br_t (by decide) h)⟩)
theorem cf_damaged {post : Int32 → Prop} {s g m : Nat} {w t D fc ff : Int32} {ns : Int64} {a1 a2 : Nat → Int32} {a3 : Nat → Int64} {a4 a5 a6 : Nat → Int32} (hs : s < 16) (hg : g < 32) (hP : cf_P s g w t a1 a4 a5 a6) (hD : cf_D w t D) (hm : (D = -3 ∧ m = 1) ∨ (D ≠ -3 ∧ m = 0)) (h : post (nI m)) : wpX_damaged post (fc, ff, ns, a1, a2, a3, a4, a5, a6) := by
  refine pk_loop (fun n i x => wX_damaged_4 post fc ff ns a1 a2 a3 a4 a5 a6 n x (nI i)) (fun i x => x = nI (if s < i then m else 0)) 16 0 0 (by omega) (by rw [if_neg (by omega)]; rfl) (fun n x hx => ?_) (fun n i x hi hx hw => ?_)
  · refine pk_le 16 16 (fun _ => ?_) (fun z => absurd z (by omega))
    rw [hx, if_pos hs]
    exact h
  · refine pk_le 16 i (fun z => absurd z (by omega)) (fun _ => ?_)
    by_cases e : i = s
    · rw [e] at hx hw ⊢
      rw [if_neg (by omega)] at hx
      refine cf_readS hs hg hP hD ?_
      rcases hm with ⟨h1, h2⟩ | ⟨h1, h2⟩
      · exact br_t h1 (nm_e (nm_r (nI_1 s) (hw _ (by rw [hx, if_pos (by omega), h2]; rfl))))
      · exact br_f h1 (nm_e (nm_r (nI_1 s) (hw _ (by rw [hx, if_pos (by omega), h2]; rfl))))
    · refine cf_readO hi e hP (br_f (by decide) (nm_e (nm_r (nI_1 i) (hw _ ?_))))
      rw [hx]
      by_cases z : s < i
      · rw [if_pos z, if_pos (by omega)]
        exact nI_add m 0
      · rw [if_neg z, if_neg (by omega)]
        rfl
theorem cf_sum {post : Int32 → Prop} {s g k : Nat} {w t fc ff : Int32} {ns : Int64} {a1 a2 : Nat → Int32} {a3 : Nat → Int64} {a4 a5 a6 : Nat → Int32} (hs : s < 16) (hg : g < 32) (hk : k < 65536) (hP : cf_P s g w t a1 a4 a5 a6) (hD : cf_D w t (nI k)) (h : post (nI k)) : wpX_sum post (fc, ff, ns, a1, a2, a3, a4, a5, a6) := by
  refine pk_loop (fun n i x => wX_sum_4 post fc ff ns a1 a2 a3 a4 a5 a6 n x (nI i)) (fun i x => x = nI (if s < i then k else 0)) 16 0 0 (by omega) (by rw [if_neg (by omega)]; rfl) (fun n x hx => ?_) (fun n i x hi hx hw => ?_)
  · refine pk_le 16 16 (fun _ => ?_) (fun z => absurd z (by omega))
    rw [hx, if_pos hs]
    exact h
  · refine pk_le 16 i (fun z => absurd z (by omega)) (fun _ => ?_)
    by_cases e : i = s
    · rw [e] at hx hw ⊢
      rw [if_neg (by omega)] at hx
      refine cf_readS hs hg hP hD ?_
      refine pk_le k 0 (fun z => nm_e (nm_r (nI_1 s) (hw _ ?_))) (fun z => nm_e (nm_r (nI_1 s) (hw _ ?_)))
      · rw [hx, if_pos (by omega), show k = 0 by omega]; rfl
      · rw [hx, if_pos (by omega), nI_add, Nat.zero_add]
    · refine cf_readO hi e hP (br_t (by decide) (nm_e (nm_r (nI_1 i) (hw _ ?_))))
      rw [hx]
      by_cases z : s < i
      · rw [if_pos z, if_pos (by omega)]
        exact nI_add k 0
      · rw [if_neg z, if_neg (by omega)]
        rfl
/-! repair -/
theorem cf_repairG {post : Int32 → St2 → Prop} {s g k : Nat} {w t : Int32} {ns : Int64} {a1 a2 : Nat → Int32} {a3 : Nat → Int64} {a4 a5 a6 : Nat → Int32} (hs : s < 16) (hg : g < 3) (hk : k < 65536) (hP : cf_P s g w t a1 a4 a5 a6) (hD : cf_D w t (nI k))
    (H : ∀ (c : Int32) (ns : Int64) (a1 a2 : Nat → Int32) (a3 : Nat → Int64) (a4 a5 a6 : Nat → Int32), cf_C (nI k &&& 65535) c → cf_P s (g + 1) c 0 a1 a4 a5 a6 → post (nI k) (0, nI (g + 2), ns, a1, a2, a3, a4, a5, a6)) :
    wpX_repair post (0, nI (g + 1), ns, a1, a2, a3, a4, a5, a6) (nI s) := by
  unfold wpX_repair
  exact cf_readS hs (by omega) hP hD (pk_lt k 0 (fun z => absurd z (by omega)) (fun _ => cf_write hs (by omega) hP.2.2.2.2 H))
theorem cf_repairB {post : Int32 → St2 → Prop} {s g : Nat} {w t fc ff : Int32} {ns : Int64} {a1 a2 : Nat → Int32} {a3 : Nat → Int64} {a4 a5 a6 : Nat → Int32} (hs : s < 16) (hg : g < 32) (hP : cf_P s g w t a1 a4 a5 a6) (hD : cf_D w t (-3))
    (H : post (-3) (fc, ff, ns, a1, a2, a3, a4, a5, a6)) : wpX_repair post (fc, ff, ns, a1, a2, a3, a4, a5, a6) (nI s) := by
  unfold wpX_repair
  exact cf_readS hs hg hP hD (br_t (by decide) H)
end
section
/-! the law, from its end -/
theorem cf_vb {x : Int32} {k : Nat} (hx : x &&& 65535 = nI k) : ∀ j, 16 ≤ j → cf_bt (nI k) j = false := by
  intro j hj
  rw [← hx, cf_and, cf_b65535, decide_eq_false (by omega), Bool.and_false]
theorem cf_m16 {k : Nat} (hk : k < 65536) : nI k &&& 65535 = nI k := by
  rw [pk_andN (by omega) 16 (by decide), Nat.mod_eq_of_lt (show k < 2 ^ 16 by omega)]
theorem cf_nm3 {k : Nat} (hk : k < 65536) : nI k ≠ -3 := fun z => absurd (show nI k < 0 by rw [z]; decide) (nI_pos (by omega))
theorem cf_219G {post : Int32 → St0 → Prop} {mc ms kc ks s a b k g : Nat} {x0 c fc ff : Int32} {ns : Int64} {a1 a2 : Nat → Int32} {a3 : Nat → Int64} {a4 a5 a6 : Nat → Int32} (hs : s < 16) (hg : g < 32) (ha : a < 22) (hb : b < 22) (hk : k < 65536) (hx : x0 &&& 65535 = nI k) (hC : cf_C (nI k) c) (hP : cf_P s g c 0 a1 a4 a5 a6) (h : post 1 ()) :
    wL_lawOf_219 post mc ms x0 (nI s) (nI a) (nI b) 0 0 0 kc ks fc ff ns a1 a2 a3 a4 a5 a6 := by
  refine br_t rfl (cf_turnG hs hg ha hP (cf_0x _) (cf_on1 ha) (by omega) (fun a5' hP' => br_t rfl (cf_sum hs hg hk hP' (fun post h => cf_dec1 ha hC (cf_vb hx) h) (br_t hx.symm ?_))))
  by_cases e : a = b
  · refine cf_turnG hs hg hb hP' (by rw [e]; exact cf_xs _) cf_on0 (by omega) (fun _ _ => br_t (by rw [e]) (br_t rfl h))
  · refine cf_turnG hs hg hb hP' rfl (cf_on2 ha hb e) (by omega) (fun _ _ => br_f (fun z => e ((nI_eq (by omega) (by omega)).mp z)) (br_t rfl (br_t rfl h)))
theorem cf_219B {post : Int32 → St0 → Prop} {mc ms kc ks s a b k g : Nat} {x0 c fc ff : Int32} {ns : Int64} {a1 a2 : Nat → Int32} {a3 : Nat → Int64} {a4 a5 a6 : Nat → Int32} (hs : s < 16) (hg : g < 32) (ha : a < 22) (hb : b < 22) (e : a ≠ b) (hk : k < 65536) (hx : x0 &&& 65535 = nI k) (hC : cf_C (nI k) c) (hP : cf_P s g c (cf_sh a ^^^ cf_sh b) a1 a4 a5 a6) (h : post 1 ()) :
    wL_lawOf_219 post mc ms x0 (nI s) (nI a) (nI b) 1 1 1 kc ks fc ff ns a1 a2 a3 a4 a5 a6 :=
  br_t rfl (cf_turnG hs hg ha hP (cf_xm _ _) (cf_on1 hb) (by omega) (fun a5' hP' => br_t rfl (cf_sum hs hg hk hP' (fun post h => cf_dec1 hb hC (cf_vb hx) h) (br_t hx.symm
    (cf_turnG hs hg hb hP' (cf_xs _) cf_on0 (by omega) (fun _ _ => br_f (fun z => e ((nI_eq (by omega) (by omega)).mp z)) (br_f (by decide) (br_t rfl h))))))))
theorem cf_178G {post : Int32 → St0 → Prop} {mc ms kc ks s a b k : Nat} {x0 c t : Int32} {ns : Int64} {a1 a2 : Nat → Int32} {a3 : Nat → Int64} {a4 a5 a6 : Nat → Int32} (hs : s < 16) (ha : a < 22) (hb : b < 22) (hk : k < 65536) (hx : x0 &&& 65535 = nI k) (hD : cf_D c t (nI k)) (hP : cf_P s 0 c t a1 a4 a5 a6) (h : post 1 ()) :
    wL_lawOf_178 post mc ms x0 (nI s) (nI a) (nI b) 0 kc ks 0 (nI 1) ns a1 a2 a3 a4 a5 a6 := by
  unfold wL_lawOf_178
  exact cf_repairG (g := 0) hs (by omega) hk hP hD (fun c' ns' b1 b2 b3 b4 b5 b6 hC' hP' => br_t rfl (br_t hx.symm
    (cf_damaged (m := 0) (D := nI k) hs (by omega) hP' (fun post h => by rw [cf_x0]; rw [cf_m16 hk] at hC'; exact cf_dec0 hC' (cf_vb hx) h) (Or.inr ⟨cf_nm3 hk, rfl⟩)
      (br_t rfl (cf_219G hs (by omega) ha hb hk hx (by rw [cf_m16 hk] at hC'; exact hC') hP' h)))))
theorem cf_178B {post : Int32 → St0 → Prop} {mc ms kc ks s a b k : Nat} {x0 c : Int32} {ns : Int64} {a1 a2 : Nat → Int32} {a3 : Nat → Int64} {a4 a5 a6 : Nat → Int32} (hs : s < 16) (ha : a < 22) (hb : b < 22) (e : a ≠ b) (hk : k < 65536) (hx : x0 &&& 65535 = nI k) (hC : cf_C (nI k) c) (hP : cf_P s 0 c (cf_sh a ^^^ cf_sh b) a1 a4 a5 a6) (h : post 1 ()) :
    wL_lawOf_178 post mc ms x0 (nI s) (nI a) (nI b) 1 kc ks 0 (nI 1) ns a1 a2 a3 a4 a5 a6 := by
  have hD : cf_D c (cf_sh a ^^^ cf_sh b) (-3) := fun post h => cf_dec2 ha hb e hC h
  unfold wL_lawOf_178
  exact cf_repairB hs (by omega) hP hD (br_f (by decide) (br_t rfl
    (cf_damaged (m := 1) hs (by omega) hP hD (Or.inl ⟨rfl, rfl⟩) (br_f (by decide) (cf_219B hs (by omega) ha hb e hk hx hC hP h)))))
/-- a = b: nothing is turned, then c -/
theorem cf_127A {post : Int32 → St0 → Prop} {mc ms kc ks s a b d k : Nat} {x0 z0 c : Int32} {ns : Int64} {a1 a2 : Nat → Int32} {a3 : Nat → Int64} {a4 a5 a6 : Nat → Int32} (hs : s < 16) (ha : a < 22) (hb : b < 22) (hd : d < 22) (hk : k < 65536) (hx : x0 &&& 65535 = nI k) (hC : cf_C (nI k) c) (hP : cf_P s 0 c 0 a1 a4 a5 a6) (h : post 1 ()) :
    wL_lawOf_127 post mc ms x0 (nI s) (nI a) (nI b) (nI d) 0 z0 kc ks 0 (nI 1) ns a1 a2 a3 a4 a5 a6 := by
  unfold wL_lawOf_127
  exact cf_turnG hs (by omega) hd hP (cf_0x _) (cf_on1 hd) (by omega) (fun a5' hP' => br_t rfl (br_t rfl (br_t rfl
    (cf_178G hs ha hb hk hx (fun post h => cf_dec1 hd hC (cf_vb hx) h) hP' h))))
/-- a and b are turned, then one of them back: e is left -/
theorem cf_127E {post : Int32 → St0 → Prop} {mc ms kc ks s a b d e k : Nat} {x0 t c : Int32} {ns : Int64} {a1 a2 : Nat → Int32} {a3 : Nat → Int64} {a4 a5 a6 : Nat → Int32} (hs : s < 16) (ha : a < 22) (hb : b < 22) (hd : d < 22) (he : e < 22) (ht : t ^^^ cf_sh d = cf_sh e) (hk : k < 65536) (hx : x0 &&& 65535 = nI k) (hC : cf_C (nI k) c) (hP : cf_P s 0 c t a1 a4 a5 a6) (h : post 1 ()) :
    wL_lawOf_127 post mc ms x0 (nI s) (nI a) (nI b) (nI d) 1 1 kc ks 0 (nI 1) ns a1 a2 a3 a4 a5 a6 := by
  unfold wL_lawOf_127
  exact cf_turnG hs (by omega) hd hP ht (cf_on1 he) (by omega) (fun a5' hP' => br_f (by decide) (br_f (by decide) (br_t rfl (br_f (by decide) (br_f (by decide)
    (cf_178G hs ha hb hk hx (fun post h => cf_dec1 he hC (cf_vb hx) h) hP' h))))))
/-- a and b are turned, c is a third -/
theorem cf_127B {post : Int32 → St0 → Prop} {mc ms kc ks s a b d k : Nat} {x0 c : Int32} {ns : Int64} {a1 a2 : Nat → Int32} {a3 : Nat → Int64} {a4 a5 a6 : Nat → Int32} (hs : s < 16) (ha : a < 22) (hb : b < 22) (hd : d < 22) (e : a ≠ b) (e1 : d ≠ a) (e2 : d ≠ b) (hk : k < 65536) (hx : x0 &&& 65535 = nI k) (hC : cf_C (nI k) c) (hP : cf_P s 0 c (cf_sh a ^^^ cf_sh b) a1 a4 a5 a6) (h : post 1 ()) :
    wL_lawOf_127 post mc ms x0 (nI s) (nI a) (nI b) (nI d) 1 0 kc ks 0 (nI 1) ns a1 a2 a3 a4 a5 a6 := by
  unfold wL_lawOf_127
  exact cf_turnB hs (by omega) hd hP (by rw [cf_on3 ha hb hd e e1 e2]; omega) (br_f (by decide) (br_t rfl (br_t rfl (br_f (by decide) (br_t rfl
    (cf_178B hs ha hb e hk hx hC hP h))))))
theorem cf_89A {post : Int32 → St0 → Prop} {mc ms kc ks s a b d k : Nat} {x0 c : Int32} {ns : Int64} {a1 a2 : Nat → Int32} {a3 : Nat → Int64} {a4 a5 a6 : Nat → Int32} (hs : s < 16) (ha : a < 22) (hb : b < 22) (hd : d < 22) (e : a = b) (hk : k < 65536) (hx : x0 &&& 65535 = nI k) (hC : cf_C (nI k) c) (hP : cf_P s 0 c 0 a1 a4 a5 a6) (h : post 1 ()) :
    wL_lawOf_89 post mc ms x0 (nI s) (nI a) (nI b) (nI d) 0 0 kc ks 0 (nI 1) ns a1 a2 a3 a4 a5 a6 :=
  br_t rfl (br_t (by rw [e]) (br_c (fun _ => cf_127A hs ha hb hd hk hx hC hP h) (fun _ => br_c (fun _ => cf_127A hs ha hb hd hk hx hC hP h) (fun _ => cf_127A hs ha hb hd hk hx hC hP h))))
theorem cf_89B {post : Int32 → St0 → Prop} {mc ms kc ks s a b d k : Nat} {x0 c : Int32} {ns : Int64} {a1 a2 : Nat → Int32} {a3 : Nat → Int64} {a4 a5 a6 : Nat → Int32} (hs : s < 16) (ha : a < 22) (hb : b < 22) (hd : d < 22) (e : a ≠ b) (hk : k < 65536) (hx : x0 &&& 65535 = nI k) (hC : cf_C (nI k) c) (hP : cf_P s 0 c (cf_sh a ^^^ cf_sh b) a1 a4 a5 a6) (h : post 1 ()) :
    wL_lawOf_89 post mc ms x0 (nI s) (nI a) (nI b) (nI d) 2 2 kc ks 0 (nI 1) ns a1 a2 a3 a4 a5 a6 :=
  br_t rfl (br_f (fun z => e ((nI_eq (by omega) (by omega)).mp z))
    (pk_eq d a (fun z => cf_127E (e := b) hs ha hb hd hb (by rw [z]; exact cf_xm _ _) hk hx hC hP h)
      (fun e1 => pk_eq d b (fun z => cf_127E (e := a) hs ha hb hd ha (by rw [z]; exact cf_xx _ _) hk hx hC hP h)
        (fun e2 => cf_127B hs ha hb hd e e1 e2 hk hx hC hP h))))
theorem cf_rem (p : Int32) : ∃ a, a < 22 ∧ (p &&& 255) - (p &&& 255) / 22 * 22 = nI a := by
  obtain ⟨j, hj, e⟩ := pk_andE p (m := 255) 8 (by decide)
  refine ⟨j % 22, Nat.mod_lt _ (by omega), ?_⟩
  rw [e]
  exact pk_rem (d := 22) (by omega) (by omega) (by omega)
theorem cf_lawOf {post : Int32 → St0 → Prop} (p0 p1 p2 p3 p4 : Int32) (h : post 1 ()) : wpL_lawOf post 7 185 () p0 p1 p2 p3 p4 := by
  obtain ⟨s, hs, es⟩ := pk_andE p4 (m := 15) 4 (by decide)
  obtain ⟨k, hk, hx⟩ := pk_andE p0 (m := 65535) 16 (by decide)
  obtain ⟨a, ha, ea⟩ := cf_rem p1
  obtain ⟨b, hb, eb⟩ := cf_rem p2
  obtain ⟨d, hd, ed⟩ := cf_rem p3
  have hs : s < 16 := hs
  have hk : k < 65536 := hk
  refine ⟨by omega, by omega, 6, 176, by omega, by omega, cf_init (fun nw hn => nm_r es ⟨by decide, nm_r ea ⟨by decide, nm_r eb ⟨by decide, nm_r ed ?_⟩⟩⟩)⟩
  refine cf_write (q := 0) hs (by omega) (fun j hj _ => hn j hj) (fun c ns b1 b2 b3 b4 b5 b6 hC hP => ?_)
  rw [hx] at hC
  refine cf_turnG hs (by omega) ha hP (cf_0x _) (cf_on1 ha) (by omega) (fun a5' hP' => br_t rfl ?_)
  by_cases e : a = b
  · exact cf_turnG hs (by omega) hb hP' (by rw [e]; exact cf_xs _) cf_on0 (by omega) (fun a5'' hP'' => br_t (by rw [e]) (cf_89A hs ha hb hd e hk hx hC hP'' h))
  · exact cf_turnG hs (by omega) hb hP' rfl (cf_on2 ha hb e) (by omega) (fun a5'' hP'' => br_f (fun z => e ((nI_eq (by omega) (by omega)).mp z)) (cf_89B hs ha hb hd e hk hx hC hP'' h))
theorem cf_cell {post : Int32 → Prop} {L : Nat} {xs : Nat → Int32} (i : Nat) (hi : i < 5) (hL : L ≤ 5) (h : ∀ r, post r) : wpL_cellAt post L xs () (nI i) :=
  pk_le L i (fun _ => h _) (fun z => ⟨pk_in i L z, h _⟩)
theorem i_vc (xs : Nat → Int32) (L : Nat) (hL : L ≤ 5) : wpL_law (fun r => r = 1) L xs := by
  unfold wpL_law
  exact cf_cell 0 (by omega) hL (fun r1 => cf_cell 1 (by omega) hL (fun r2 => cf_cell 2 (by omega) hL (fun r3 => cf_cell 3 (by omega) hL (fun r4 => cf_cell 4 (by omega) hL (fun r5 =>
    ⟨7, 185, by omega, by omega, cf_lawOf r1 r2 r3 r4 r5 rfl⟩)))))
end
