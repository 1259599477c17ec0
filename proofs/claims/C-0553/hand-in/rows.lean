section
/-! rows pasted from kit/rows (PURE-ROWS, BITS): stores, nI arithmetic, branches by naturals, bits -/
theorem pk_us {f : Nat → Int32} {k : Nat} {x : Int32} : upd f k x k = x := if_pos rfl
theorem pk_un {f : Nat → Int32} {k j : Nat} {x : Int32} (h : j ≠ k) : upd f k x j = f j := if_neg h
theorem pk_sub {a b : Nat} (h : b ≤ a) : nI a - nI b = nI (a - b) := by
  obtain ⟨c, rfl⟩ : ∃ c, a = c + b := ⟨a - b, by omega⟩
  rw [← nI_add, Int32.add_sub_cancel, Nat.add_sub_cancel]
theorem pk_m1 (n : Nat) : nI (n + 1) + (-1) = nI n := by
  rw [← nI_1, Int32.add_assoc, show (1 : Int32) + (-1) = 0 from rfl, Int32.add_zero]
theorem pk_mul (a b : Nat) : nI a * nI b = nI (a * b) := (Int32.ofNat_mul a b).symm
theorem pk_div {a d : Nat} (ha : a < 2 ^ 31) (h0 : 0 < d) (hd : d < 2 ^ 31) : nI a / nI d = nI (a / d) := by
  apply Int32.toInt_inj.mp
  rw [lg_idiv_nonneg (by rw [nI_toInt ha]; omega) (by rw [nI_toInt hd]; omega), nI_toInt ha, nI_toInt hd, nI_toInt (Nat.lt_of_le_of_lt (Nat.div_le_self a d) ha)]
  first | rfl | exact (Int.natCast_ediv _ _).symm
theorem pk_rem {a d : Nat} (ha : a < 2 ^ 31) (h0 : 0 < d) (hd : d < 2 ^ 31) : nI a - nI a / nI d * nI d = nI (a % d) := by
  rw [pk_div ha h0 hd, pk_mul, pk_sub (Nat.div_mul_le_self a d)]
  exact congrArg nI (by have := Nat.div_add_mod' a d; omega)
theorem pk_ix (x : Int32) {n : Nat} (hn : n < 2 ^ 31) : x < 0 ∨ nI n ≤ x ∨ ∃ j : Nat, j < n ∧ x = nI j := by
  by_cases h : x < 0
  · exact Or.inl h
  · obtain ⟨j, hj, rfl⟩ := nI_of h
    by_cases h2 : j < n
    · exact Or.inr (Or.inr ⟨j, h2, rfl⟩)
    · exact Or.inr (Or.inl (nI_le (by omega) hj))
theorem pk_le {x y : Int32} {A B : Prop} (a b : Nat) (f : a ≤ b → A) (g : b < a → B) (hx : x = nI a := by rfl) (hy : y = nI b := by rfl) (ha : a < 2 ^ 31 := by omega) (hb : b < 2 ^ 31 := by omega) : (x ≤ y → A) ∧ (¬ x ≤ y → B) := by
  subst hx hy
  rw [nI_leI ha hb]
  exact ⟨f, fun z => g (by omega)⟩
theorem pk_lt {x y : Int32} {A B : Prop} (a b : Nat) (f : a < b → A) (g : b ≤ a → B) (hx : x = nI a := by rfl) (hy : y = nI b := by rfl) (ha : a < 2 ^ 31 := by omega) (hb : b < 2 ^ 31 := by omega) : (x < y → A) ∧ (¬ x < y → B) := by
  subst hx hy
  rw [nI_ltI ha hb]
  exact ⟨f, fun z => g (by omega)⟩
theorem pk_eq {x y : Int32} {A B : Prop} (a b : Nat) (f : a = b → A) (g : a ≠ b → B) (hx : x = nI a := by rfl) (hy : y = nI b := by rfl) (ha : a < 2 ^ 31 := by omega) (hb : b < 2 ^ 31 := by omega) : (x = y → A) ∧ (¬ x = y → B) := by
  subst hx hy
  rw [nI_eq ha hb]
  exact ⟨f, g⟩
theorem pk_in {x : Int32} (n N : Nat) (h : n < N) (hx : x = nI n := by rfl) (hN : N < 2 ^ 31 := by omega) : vp_in x N := by
  subst hx
  exact vp_in_nI h hN
theorem pk_cl {x : Int32} (n : Nat) (hx : x = nI n := by rfl) (h : n < 2 ^ 31 := by omega) : x.toNatClampNeg = n := by
  subst hx
  exact nI_clamp h
theorem pk_least (P : Nat → Prop) (h : ∃ k, P k) : ∃ k, P k ∧ ∀ j, j < k → ¬ P j := by
  obtain ⟨k, hk⟩ := h
  induction k using Nat.strongRecOn with
  | ind k ih =>
    by_cases e : ∃ j, j < k ∧ P j
    · obtain ⟨j, hj, pj⟩ := e
      exact ih j hj pj
    · exact ⟨k, hk, fun j hj pj => e ⟨j, hj, pj⟩⟩
def bt (x : Int32) (i : Nat) : Bool := x.toBitVec.getLsbD i
theorem b_ext {x y : Int32} (h : ∀ i, i < 32 → bt x i = bt y i) : x = y := Int32.toBitVec_inj.mp (BitVec.eq_of_getLsbD_eq (fun i hi => h i hi))
theorem b_or (x y : Int32) (i : Nat) : bt (x ||| y) i = (bt x i || bt y i) := by unfold bt; rw [Int32.toBitVec_or, BitVec.getLsbD_or]
theorem b_and (x y : Int32) (i : Nat) : bt (x &&& y) i = (bt x i && bt y i) := by unfold bt; rw [Int32.toBitVec_and, BitVec.getLsbD_and]
theorem b_xor (x y : Int32) (i : Nat) : bt (x ^^^ y) i = (bt x i ^^ bt y i) := by unfold bt; rw [Int32.toBitVec_xor, BitVec.getLsbD_xor]
theorem b_big {x : Int32} {i : Nat} (h : 32 ≤ i) : bt x i = false := BitVec.getLsbD_of_ge _ _ h
theorem b_m1 : ∀ i, i < 32 → bt (-1) i = true := by decide +kernel
theorem b_0 (i : Nat) : bt 0 i = false := BitVec.getLsbD_zero
theorem s_l : ∀ n, n < 32 → ((nI n &&& 31).toBitVec.smod 32).toNat = n := by decide +kernel
theorem b_sshr (n : Nat) (hn : n < 32) (x : Int32) {i : Nat} (hi : i < 32) : bt (x >>> (nI n &&& 31)) i = if n + i < 32 then bt x (n + i) else bt x 31 := by
  unfold bt
  rw [Int32.toBitVec_shiftRight]
  show (x.toBitVec.sshiftRight ((nI n &&& 31).toBitVec.smod 32).toNat).getLsbD i = _
  rw [s_l n hn, BitVec.getLsbD_sshiftRight, BitVec.msb_eq_getLsbD_last]
  simp [hi]
end
section
/-! small pure functions: all, some, count below a bound; five-bit sets; families as ints -/
/-- a boolean as an int -/
def zz_b (b : Bool) : Int32 := if b then 1 else 0
theorem zz_br {b : Bool} {A B : Prop} (f : b = false → A) (g : b = true → B) : (zz_b b = 0 → A) ∧ (¬ zz_b b = 0 → B) := by
  cases b
  · exact ⟨fun _ => f rfl, fun h => absurd (by decide) h⟩
  · exact ⟨fun h => absurd h (by decide), fun _ => g rfl⟩
theorem zz_t : zz_b true = 1 := rfl
theorem zz_f : zz_b false = 0 := rfl
theorem zz_nar (b : Bool) : narrow .boolean (.int (zz_b b)) = .int (zz_b b) := by cases b <;> rfl
theorem zz_bq {a b : Bool} (h : a = true ↔ b = true) : a = b := by
  cases a <;> cases b <;> simp_all
theorem zz_nf {b : Bool} (h : ¬ b = true) : b = false := by cases b <;> simp_all
theorem zz_ft {b : Bool} (h : b = false) : ¬ b = true := by cases b <;> simp_all

def ps_al : Nat → (Nat → Bool) → Bool
  | 0, _ => true
  | n + 1, P => ps_al n P && P n
def ps_ex : Nat → (Nat → Bool) → Bool
  | 0, _ => false
  | n + 1, P => ps_ex n P || P n
def ps_cn : Nat → (Nat → Bool) → Nat
  | 0, _ => 0
  | n + 1, P => ps_cn n P + (if P n then 1 else 0)
theorem ps_al_iff {P : Nat → Bool} : ∀ {n : Nat}, ps_al n P = true ↔ ∀ i, i < n → P i = true := by
  intro n
  induction n with
  | zero => exact ⟨fun _ i hi => absurd hi (Nat.not_lt_zero i), fun _ => rfl⟩
  | succ n ih =>
    show (ps_al n P && P n) = true ↔ _
    rw [Bool.and_eq_true, ih]
    constructor
    · intro h i hi
      rcases Nat.lt_or_ge i n with q | q
      · exact h.1 i q
      · have e : i = n := by omega
        rw [e]; exact h.2
    · intro h
      exact ⟨fun i hi => h i (by omega), h n (by omega)⟩
theorem ps_ex_iff {P : Nat → Bool} : ∀ {n : Nat}, ps_ex n P = true ↔ ∃ i, i < n ∧ P i = true := by
  intro n
  induction n with
  | zero => exact ⟨fun h => (nomatch h), fun ⟨i, hi, _⟩ => absurd hi (Nat.not_lt_zero i)⟩
  | succ n ih =>
    show (ps_ex n P || P n) = true ↔ _
    rw [Bool.or_eq_true, ih]
    constructor
    · rintro (⟨i, hi, h⟩ | h)
      · exact ⟨i, by omega, h⟩
      · exact ⟨n, by omega, h⟩
    · rintro ⟨i, hi, h⟩
      rcases Nat.lt_or_ge i n with q | q
      · exact Or.inl ⟨i, q, h⟩
      · have e : i = n := by omega
        rw [e] at h; exact Or.inr h
theorem ps_al_cg {P Q : Nat → Bool} {n : Nat} (h : ∀ i, i < n → P i = Q i) : ps_al n P = ps_al n Q := by
  apply zz_bq
  rw [ps_al_iff, ps_al_iff]
  exact ⟨fun g i hi => (h i hi).symm.trans (g i hi), fun g i hi => (h i hi).trans (g i hi)⟩
theorem ps_ex_cg {P Q : Nat → Bool} {n : Nat} (h : ∀ i, i < n → P i = Q i) : ps_ex n P = ps_ex n Q := by
  apply zz_bq
  rw [ps_ex_iff, ps_ex_iff]
  exact ⟨fun ⟨i, hi, g⟩ => ⟨i, hi, (h i hi).symm.trans g⟩, fun ⟨i, hi, g⟩ => ⟨i, hi, (h i hi).trans g⟩⟩
theorem ps_cn_cg {P Q : Nat → Bool} : ∀ {n : Nat}, (∀ i, i < n → P i = Q i) → ps_cn n P = ps_cn n Q := by
  intro n
  induction n with
  | zero => intro _; rfl
  | succ n ih =>
    intro h
    show ps_cn n P + (if P n then 1 else 0) = ps_cn n Q + (if Q n then 1 else 0)
    rw [ih (fun i hi => h i (by omega)), h n (by omega)]
theorem ps_cn_le (P : Nat → Bool) : ∀ n : Nat, ps_cn n P ≤ n := by
  intro n
  induction n with
  | zero => exact Nat.le_refl 0
  | succ n ih =>
    show ps_cn n P + (if P n then 1 else 0) ≤ n + 1
    split <;> omega

/-! five-bit sets -/
def ps_ms (p : Nat → Bool) : Nat := (if p 0 then 1 else 0) + (if p 1 then 2 else 0) + (if p 2 then 4 else 0) + (if p 3 then 8 else 0) + (if p 4 then 16 else 0)
theorem ps_ms_lt (p : Nat → Bool) : ps_ms p < 32 := by
  unfold ps_ms
  generalize p 0 = a
  generalize p 1 = b
  generalize p 2 = c
  generalize p 3 = d
  generalize p 4 = e
  revert a b c d e
  decide
theorem ps_5 {P : Nat → Prop} (h0 : P 0) (h1 : P 1) (h2 : P 2) (h3 : P 3) (h4 : P 4) : ∀ i, i < 5 → P i := by
  intro i hi
  match i, hi with
  | 0, _ => exact h0
  | 1, _ => exact h1
  | 2, _ => exact h2
  | 3, _ => exact h3
  | 4, _ => exact h4
theorem ps_ms_tb (p : Nat → Bool) : ∀ i, i < 5 → (ps_ms p).testBit i = p i := by
  have K : ∀ a b c d e : Bool, ((if a then 1 else 0) + (if b then 2 else 0) + (if c then 4 else 0) + (if d then 8 else 0) + (if e then 16 else 0)).testBit 0 = a ∧ ((if a then 1 else 0) + (if b then 2 else 0) + (if c then 4 else 0) + (if d then 8 else 0) + (if e then 16 else 0)).testBit 1 = b ∧ ((if a then 1 else 0) + (if b then 2 else 0) + (if c then 4 else 0) + (if d then 8 else 0) + (if e then 16 else 0)).testBit 2 = c ∧ ((if a then 1 else 0) + (if b then 2 else 0) + (if c then 4 else 0) + (if d then 8 else 0) + (if e then 16 else 0)).testBit 3 = d ∧ ((if a then 1 else 0) + (if b then 2 else 0) + (if c then 4 else 0) + (if d then 8 else 0) + (if e then 16 else 0)).testBit 4 = e := by decide +kernel
  have k := K (p 0) (p 1) (p 2) (p 3) (p 4)
  exact ps_5 k.1 k.2.1 k.2.2.1 k.2.2.2.1 k.2.2.2.2
theorem ps_tb_k : ∀ v, v < 32 → ∀ w, w < 32 → (v.testBit 0 = w.testBit 0 ∧ v.testBit 1 = w.testBit 1 ∧ v.testBit 2 = w.testBit 2 ∧ v.testBit 3 = w.testBit 3 ∧ v.testBit 4 = w.testBit 4) → v = w := by decide +kernel
theorem ps_tb {v w : Nat} (hv : v < 32) (hw : w < 32) (h : ∀ i, i < 5 → v.testBit i = w.testBit i) : v = w := ps_tb_k v hv w hw ⟨h 0 (by omega), h 1 (by omega), h 2 (by omega), h 3 (by omega), h 4 (by omega)⟩
theorem ps_ms_eq {v : Nat} {p : Nat → Bool} (hv : v < 32) (h : ∀ i, i < 5 → v.testBit i = p i) : v = ps_ms p :=
  ps_tb hv (ps_ms_lt p) (fun i hi => (h i hi).trans (ps_ms_tb p i hi).symm)
theorem ps_ms_cg {p q : Nat → Bool} (h : ∀ i, i < 5 → p i = q i) : ps_ms p = ps_ms q :=
  ps_ms_eq (ps_ms_lt p) (fun i hi => (ps_ms_tb p i hi).trans (h i hi))
theorem ps_ms_inj {p q : Nat → Bool} (e : ps_ms p = ps_ms q) : ∀ i, i < 5 → p i = q i := fun i hi => by
  rw [← ps_ms_tb p i hi, e, ps_ms_tb q i hi]
theorem ps_ms_self {v : Nat} (hv : v < 32) : ps_ms (fun i => v.testBit i) = v := (ps_ms_eq hv (fun _ _ => rfl)).symm
/-- the complement of a set -/
theorem ps_co : ∀ v, v < 32 → ∀ i, i < 5 → (31 - v).testBit i = !v.testBit i := by decide +kernel
theorem ps_2x : ∀ x, x < 5 → ∀ i, i < 5 → (2 ^ x).testBit i = decide (i = x) := by decide +kernel
theorem ps_2lt : ∀ x, x < 5 → 2 ^ x < 32 := by decide
theorem ps_31 : ∀ i, i < 5 → (31 : Nat).testBit i = true := by decide
theorem ps_00 (i : Nat) : (0 : Nat).testBit i = false := Nat.zero_testBit i

/-- one set lies in another; two sets meet -/
def ps_sb (a b : Nat) : Bool := ps_al 5 (fun i => !a.testBit i || b.testBit i)
def ps_mt (a b : Nat) : Bool := ps_ex 5 (fun i => a.testBit i && b.testBit i)
theorem ps_sb_k : ∀ a, a < 32 → ∀ b, b < 32 → ((nI a &&& (nI b ^^^ (-1))) = 0 ↔ ps_sb a b = true) := by decide +kernel
theorem ps_mt_k : ∀ a, a < 32 → ∀ b, b < 32 → ((nI a &&& nI b) = 0 ↔ ps_mt a b = false) := by decide +kernel
theorem ps_in_k : ∀ v, v < 32 → ∀ x, x < 5 → (((nI v >>> (nI x &&& 31)) &&& 1) = 1 ↔ v.testBit x = true) := by decide +kernel
theorem ps_1x : ∀ x, x < 5 → (1 : Int32) <<< (nI x &&& 31) = nI (2 ^ x) := by decide +kernel
theorem ps_or_k : ∀ a, a < 32 → ∀ b, b < 32 → nI a ||| nI b = nI (a ||| b) := by decide +kernel
theorem ps_and_k : ∀ a, a < 32 → ∀ b, b < 32 → nI a &&& nI b = nI (a &&& b) := by decide +kernel
theorem ps_or_lt : ∀ a, a < 32 → ∀ b, b < 32 → a ||| b < 32 := by decide +kernel
theorem ps_and_lt : ∀ a, a < 32 → ∀ b, b < 32 → a &&& b < 32 := by decide +kernel
theorem ps_sub_k : ∀ a, a < 32 → (31 : Int32) - nI a = nI (31 - a) := by decide +kernel
theorem ps_or (p q : Nat → Bool) : nI (ps_ms p) ||| nI (ps_ms q) = nI (ps_ms (fun i => p i || q i)) := by
  rw [ps_or_k _ (ps_ms_lt p) _ (ps_ms_lt q)]
  refine congrArg nI (ps_ms_eq (ps_or_lt _ (ps_ms_lt p) _ (ps_ms_lt q)) (fun i hi => ?_))
  rw [Nat.testBit_or, ps_ms_tb p i hi, ps_ms_tb q i hi]
theorem ps_and (p q : Nat → Bool) : nI (ps_ms p) &&& nI (ps_ms q) = nI (ps_ms (fun i => p i && q i)) := by
  rw [ps_and_k _ (ps_ms_lt p) _ (ps_ms_lt q)]
  refine congrArg nI (ps_ms_eq (ps_and_lt _ (ps_ms_lt p) _ (ps_ms_lt q)) (fun i hi => ?_))
  rw [Nat.testBit_and, ps_ms_tb p i hi, ps_ms_tb q i hi]
theorem ps_or1 (p : Nat → Bool) {r : Nat} (hr : r < 5) : nI (ps_ms p) ||| ((1 : Int32) <<< (nI r &&& 31)) = nI (ps_ms (fun i => p i || decide (i = r))) := by
  rw [ps_1x r hr, ps_or_k _ (ps_ms_lt p) _ (ps_2lt r hr)]
  refine congrArg nI (ps_ms_eq (ps_or_lt _ (ps_ms_lt p) _ (ps_2lt r hr)) (fun i hi => ?_))
  rw [Nat.testBit_or, ps_ms_tb p i hi, ps_2x r hr i hi]
theorem ps_o0 (a : Int32) : a ||| 0 = a := b_ext (fun i _ => by rw [b_or, b_0, Bool.or_false])
theorem ps_a0 (a : Int32) : a + 0 = a := Int32.add_zero a

/-! families: an int by its 32 bits -/
def ps_fr (p : Nat → Bool) : Nat → Int32
  | 0 => 0
  | n + 1 => ps_fr p n ||| (if p n then (1 : Int32) <<< (nI n &&& 31) else 0)
def ps_fm (p : Nat → Bool) : Int32 := ps_fr p 32
theorem ps_1b : ∀ n, n < 32 → ∀ i, i < 32 → bt ((1 : Int32) <<< (nI n &&& 31)) i = decide (i = n) := by decide +kernel
theorem ps_fr_b (p : Nat → Bool) : ∀ n, n ≤ 32 → ∀ i, i < 32 → bt (ps_fr p n) i = (decide (i < n) && p i) := by
  intro n
  induction n with
  | zero => intro _ i _; show bt 0 i = _; rw [b_0]; simp
  | succ n ih =>
    intro hn i hi
    show bt (ps_fr p n ||| (if p n then (1 : Int32) <<< (nI n &&& 31) else 0)) i = _
    rw [b_or, ih (by omega) i hi]
    by_cases e : i = n
    · subst e
      cases h : p i
      · simp [b_0]
      · simp [ps_1b i hi i hi]
    · have h1 : (i < n + 1) ↔ (i < n) := by omega
      cases h : p n
      · simp [b_0, h1]
      · simp [ps_1b n (by omega) i hi, h1, e]
theorem ps_fm_b (p : Nat → Bool) : ∀ i, i < 32 → bt (ps_fm p) i = p i := fun i hi => by
  unfold ps_fm
  rw [ps_fr_b p 32 (Nat.le_refl 32) i hi]
  simp [hi]
theorem ps_fm_eq {f : Int32} {p : Nat → Bool} (h : ∀ i, i < 32 → bt f i = p i) : f = ps_fm p :=
  b_ext (fun i hi => (h i hi).trans (ps_fm_b p i hi).symm)
theorem ps_fm_cg {p q : Nat → Bool} (h : ∀ i, i < 32 → p i = q i) : ps_fm p = ps_fm q :=
  ps_fm_eq (fun i hi => (ps_fm_b p i hi).trans (h i hi))
theorem ps_fm_inj {p q : Nat → Bool} (e : ps_fm p = ps_fm q) : ∀ i, i < 32 → p i = q i := fun i hi => by
  rw [← ps_fm_b p i hi, e, ps_fm_b q i hi]
theorem ps_fm_or (p : Nat → Bool) {r : Nat} (hr : r < 32) : ps_fm p ||| ((1 : Int32) <<< (nI r &&& 31)) = ps_fm (fun i => p i || decide (i = r)) :=
  ps_fm_eq (fun i hi => by rw [b_or, ps_fm_b p i hi, ps_1b r hr i hi])
theorem ps_fm_and (p q : Nat → Bool) : ps_fm p &&& ps_fm q = ps_fm (fun i => p i && q i) :=
  ps_fm_eq (fun i hi => by rw [b_and, ps_fm_b p i hi, ps_fm_b q i hi])
theorem ps_fm_0 : ps_fm (fun _ => false) = 0 := (ps_fm_eq (fun i _ => b_0 i)).symm
theorem ps_b1 : ∀ i, i < 32 → bt 1 i = decide (i = 0) := by decide +kernel
theorem ps_and1 (y : Int32) : (y &&& 1) = 1 ↔ bt y 0 = true := by
  constructor
  · intro h
    have k : bt (y &&& 1) 0 = bt 1 0 := by rw [h]
    rw [b_and, ps_b1 0 (by omega)] at k
    simpa using k
  · intro h
    apply b_ext
    intro i hi
    rw [b_and, ps_b1 i hi]
    by_cases z : i = 0
    · subst z; simp [h]
    · simp [z]
theorem ps_fin (f : Int32) {v : Nat} (hv : v < 32) : ((f >>> (nI v &&& 31)) &&& 1) = 1 ↔ bt f v = true := by
  rw [ps_and1, b_sshr v hv f (by omega)]
  simp [hv]

/-! stores of a block -/
def ps_pu (L : Nat → Int32) (b n : Nat) (g : Nat → Int32) : Nat → Int32 := fun j => if b ≤ j ∧ j < b + n then g (j - b) else L j
theorem ps_pu0 (L : Nat → Int32) (b : Nat) (g : Nat → Int32) : ps_pu L b 0 g = L := by
  funext j
  exact if_neg (by omega)
theorem ps_puS (L : Nat → Int32) (b n : Nat) (g : Nat → Int32) {y : Int32} (hy : y = g n) : upd (ps_pu L b n g) (b + n) y = ps_pu L b (n + 1) g := by
  funext j
  unfold upd ps_pu
  by_cases e : j = b + n
  · subst e
    rw [if_pos rfl, if_pos (by omega), Nat.add_sub_cancel_left, hy]
  · rw [if_neg e]
    by_cases c : b ≤ j ∧ j < b + n
    · rw [if_pos c, if_pos (by omega)]
    · rw [if_neg c, if_neg (by omega)]
theorem ps_puI (L : Nat → Int32) {b n x : Nat} (g : Nat → Int32) (h : x < n) : ps_pu L b n g (b + x) = g x := by
  unfold ps_pu
  rw [if_pos (by omega), Nat.add_sub_cancel_left]
theorem ps_puO (L : Nat → Int32) {b n j : Nat} (g : Nat → Int32) (h : ¬ (b ≤ j ∧ j < b + n)) : ps_pu L b n g j = L j := if_neg h

/-! loops -/
theorem ps_lsq {α : Type} (W : Nat → α → Int32 → Prop) (g : Nat → α) (e : Nat) (h0 : ∀ n, W (n + 1) (g e) (nI e)) (hs : ∀ n i, i < e → W n (g (i + 1)) (nI (i + 1)) → W (n + 1) (g i) (nI i)) : ∃ n, W n (g 0) 0 := by
  have H : ∀ d i, i + d = e → W (d + 1) (g i) (nI i) := by
    intro d
    induction d with
    | zero =>
      intro i hi
      have k : i = e := hi
      rw [k]; exact h0 0
    | succ d ih => intro i hi; exact hs _ i (by omega) (ih (i + 1) (by omega))
  exact ⟨e + 1, H e 0 (by omega)⟩
theorem ps_lex (W : Nat → Int32 → Prop) (post : Int32 → Prop) (P : Nat → Bool) (e : Nat) (h0 : post 1 → ∀ n, W (n + 1) (nI e)) (hs : ∀ n i, i < e → (P i = true → W n (nI (i + 1))) → (P i = false → post 0) → W (n + 1) (nI i)) (hp : post (zz_b (ps_al e P))) : ∃ n, W n 0 := by
  have H : ∀ d i, i + d = e → (∀ j, j < i → P j = true) → W (d + 1) (nI i) := by
    intro d
    induction d with
    | zero =>
      intro i hi hj
      have k : i = e := hi
      subst k
      rw [ps_al_iff.mpr hj] at hp
      exact h0 hp 0
    | succ d ih =>
      intro i hi hj
      refine hs _ i (by omega) (fun t => ih (i + 1) (by omega) (fun j q => ?_)) (fun f => ?_)
      · rcases Nat.lt_or_ge j i with z | z
        · exact hj j z
        · have k : j = i := by omega
          rw [k]; exact t
      · have k : ps_al e P = false := zz_nf (fun z => by rw [ps_al_iff.mp z i (by omega)] at f; exact absurd f (by decide))
        rw [k] at hp
        exact hp
  exact ⟨e + 1, H e 0 (by omega) (fun j q => absurd q (Nat.not_lt_zero j))⟩
end
section
/-! X's small methods: each with a general post -/
theorem zz_v {α : Sort _} {P : α → Prop} {a b : α} (e : a = b) (h : P b) : P a := e ▸ h
theorem zz_le (n : Nat) : nI n ≤ nI n := Int32.le_refl _
theorem ps_lq {α : Type} (W : Nat → α → Int32 → Prop) (g : Nat → α) (e : Nat) {a0 : α} (e0 : g 0 = a0) (h0 : ∀ n, W (n + 1) (g e) (nI e)) (hs : ∀ n i, i < e → W n (g (i + 1)) (nI (i + 1)) → W (n + 1) (g i) (nI i)) : ∃ n, W n a0 0 := by
  rw [← e0]
  exact ps_lsq W g e h0 hs
theorem ps_cnt {P : Nat → Bool} {n : Nat} (e : P n = true) : ps_cn (n + 1) P = ps_cn n P + 1 := by simp [ps_cn, e]
theorem ps_cnf {P : Nat → Bool} {n : Nat} (e : P n = false) : ps_cn (n + 1) P = ps_cn n P := by simp [ps_cn, e]
/-- the sets that a relation keeps -/
def ps_OP (R : Nat → Nat → Bool) (v : Nat) : Bool := ps_al 5 (fun x => !v.testBit x || ps_al 5 (fun y => !R x y || v.testBit y))
/-- the rows of a space lie in the array -/
def ps_S (L : Nat → Int32) (s : Nat) (R : Nat → Nat → Bool) : Prop := ∀ x, x < 5 → L (5 * s + x) = nI (ps_ms (R x))
def ps_nl (L : Nat → Int32) (s : Nat) (R : Nat → Nat → Bool) : Nat → Int32 := ps_pu L (5 * s) 5 (fun x => nI (ps_ms (R x)))
theorem ps_S_nl (L : Nat → Int32) (s : Nat) (R : Nat → Nat → Bool) : ps_S (ps_nl L s R) s R := fun x hx => ps_puI L (fun x => nI (ps_ms (R x))) hx
theorem ps_S_pu {L : Nat → Int32} {s t n : Nat} {T : Nat → Nat → Bool} {g : Nat → Int32} (hn : n ≤ 5) (h : t ≠ s) (hT : ps_S L t T) : ps_S (ps_pu L (5 * s) n g) t T := fun x hx => by
  rw [ps_puO L g (by omega)]
  exact hT x hx
theorem ps_S_no {L : Nat → Int32} {s t : Nat} {R T : Nat → Nat → Bool} (h : t ≠ s) (hT : ps_S L t T) : ps_S (ps_nl L s R) t T := ps_S_pu (Nat.le_refl 5) h hT
theorem ps_puN (L : Nat → Int32) (b n : Nat) (g : Nat → Int32) (h : L (b + n) = g n) : ps_pu L b n g = ps_pu L b (n + 1) g := by
  funext j
  unfold ps_pu
  by_cases e : j = b + n
  · subst e
    rw [if_neg (by omega), if_pos (by omega), Nat.add_sub_cancel_left, h]
  · by_cases c : b ≤ j ∧ j < b + n
    · rw [if_pos c, if_pos (by omega)]
    · rw [if_neg c, if_neg (by omega)]
theorem ps_nl_self {L : Nat → Int32} {s : Nat} {R : Nat → Nat → Bool} (h : ps_S L s R) : ps_nl L s R = L := by
  funext j
  unfold ps_nl ps_pu
  split
  · rename_i c
    have k := h (j - 5 * s) (by omega)
    rw [show 5 * s + (j - 5 * s) = j by omega] at k
    exact k.symm
  · rfl
theorem ps_nl_nl (L : Nat → Int32) (s : Nat) (R T : Nat → Nat → Bool) : ps_nl (ps_nl L s R) s T = ps_nl L s T := by
  funext j
  unfold ps_nl ps_pu
  split <;> rfl
theorem ps_pu_cg {L : Nat → Int32} {b n : Nat} {g g' : Nat → Int32} (h : ∀ x, x < n → g x = g' x) : ps_pu L b n g = ps_pu L b n g' := by
  funext j
  unfold ps_pu
  split
  · exact h _ (by omega)
  · rfl
theorem ps_nlU {L : Nat → Int32} {s f : Nat} {B B' : Nat → Nat → Bool} {y : Int32} (hf : f < 5) (hy : y = nI (ps_ms (B' f))) (hB : ∀ x, x < 5 → x ≠ f → ps_ms (B x) = ps_ms (B' x)) : upd (ps_nl L s B) (5 * s + f) y = ps_nl L s B' := by
  funext j
  unfold upd ps_nl ps_pu
  by_cases e : j = 5 * s + f
  · subst e
    rw [if_pos rfl, if_pos (by omega), Nat.add_sub_cancel_left, hy]
  · rw [if_neg e]
    by_cases c : 5 * s ≤ j ∧ j < 5 * s + 5
    · rw [if_pos c, if_pos c]
      exact congrArg nI (hB (j - 5 * s) (by omega) (by omega))
    · rw [if_neg c, if_neg c]
theorem ps_ix5 (s x : Nat) : (5 : Int32) * nI s + nI x = nI (5 * s + x) := by
  rw [show (5 : Int32) = nI 5 from rfl, pk_mul, nI_add]
theorem ps_ix15 (x : Nat) : (15 : Int32) + nI x = nI (5 * 3 + x) := nI_add 15 x
def ps_pf (P : Nat → Bool) (n : Nat) : Nat → Bool := fun i => decide (i < n) && P i
theorem ps_pf0 (P : Nat → Bool) : ps_ms (ps_pf P 0) = 0 := by simp [ps_ms, ps_pf]
theorem ps_pf5 (P : Nat → Bool) : ps_ms (ps_pf P 5) = ps_ms P := ps_ms_cg (fun i hi => by simp [ps_pf, hi])
theorem ps_pft {P : Nat → Bool} {x : Nat} (hx : x < 5) (e : P x = true) : nI (ps_ms (ps_pf P x)) ||| ((1 : Int32) <<< (nI x &&& 31)) = nI (ps_ms (ps_pf P (x + 1))) := by
  rw [ps_or1 _ hx]
  refine congrArg nI (ps_ms_cg fun i hi => ?_)
  show (decide (i < x) && P i || decide (i = x)) = (decide (i < x + 1) && P i)
  by_cases c : i = x
  · subst c; simp [e]
  · have k : (i < x + 1) ↔ (i < x) := by omega
    simp [c, k]
theorem ps_pff {P : Nat → Bool} {x : Nat} (e : P x = false) : nI (ps_ms (ps_pf P x)) = nI (ps_ms (ps_pf P (x + 1))) := by
  refine congrArg nI (ps_ms_cg fun i hi => ?_)
  show (decide (i < x) && P i) = (decide (i < x + 1) && P i)
  by_cases c : i = x
  · subst c; simp [e]
  · have k : (i < x + 1) ↔ (i < x) := by omega
    simp [k]
/-- digits of a map -/
def ps_dg (m x : Nat) : Nat := m / 5 ^ x % 5
theorem ps_dg_lt (m x : Nat) : ps_dg m x < 5 := Nat.mod_lt _ (by decide)
theorem ps_dS (m i : Nat) : m / 5 ^ i / 5 = m / 5 ^ (i + 1) := by rw [Nat.div_div_eq_div_mul, Nat.pow_succ]
theorem ps_dL {m : Nat} (hm : m < 3125) (i : Nat) : m / 5 ^ i < 2 ^ 31 := Nat.lt_of_le_of_lt (Nat.div_le_self _ _) (by omega)
theorem ps_dD {m : Nat} (hm : m < 3125) (i : Nat) : nI (m / 5 ^ i) / 5 = nI (m / 5 ^ (i + 1)) := by
  rw [← ps_dS]
  exact pk_div (d := 5) (ps_dL hm i) (by decide) (by decide)
theorem ps_dR {m : Nat} (hm : m < 3125) (i : Nat) : nI (m / 5 ^ i) - nI (m / 5 ^ i) / 5 * 5 = nI (ps_dg m i) := pk_rem (d := 5) (ps_dL hm i) (by decide) (by decide)
def ps_cl (R : Nat → Nat → Bool) (v : Nat) : Nat := ps_ms (fun x => ps_ex 5 (fun y => R x y && v.testBit y))
def ps_inn (R : Nat → Nat → Bool) (v : Nat) : Nat := ps_ms (fun x => ps_al 5 (fun y => !R x y || v.testBit y))
def ps_cm (m v : Nat) : Nat := ps_ms (fun x => v.testBit (ps_dg m x))
def ps_tk (m v : Nat) : Nat := ps_ms (fun y => ps_ex 5 (fun x => v.testBit x && decide (y = ps_dg m x)))
/-- one more set -/
def ps_ad (R : Nat → Nat → Bool) (v : Nat) : Nat → Nat → Bool := fun x y => R x y && (!v.testBit x || v.testBit y)
/-- one stage of the closing -/
def ps_ws (R : Nat → Nat → Bool) (o : Nat) : Nat → Nat → Bool := fun x y => R x y || (R x o && R o y)
def ps_wk (R : Nat → Nat → Bool) : Nat → Nat → Nat → Bool
  | 0 => R
  | k + 1 => ps_ws (ps_wk R k) k

section
variable {L im re : Nat → Int32}
theorem xp_in {post : Int32 → Prop} {v x : Nat} (hv : v < 32) (hx : x < 5) (h : post (zz_b (v.testBit x))) : wpX_in post (nI v) (nI x) := by
  unfold wpX_in
  cases e : v.testBit x with
  | true => rw [e] at h; exact br_t ((ps_in_k v hv x hx).mpr e) h
  | false =>
    rw [e] at h
    exact br_f (fun z => by rw [(ps_in_k v hv x hx).mp z] at e; exact absurd e (by decide)) h
theorem xp_about {post : Int32 → Prop} {s x : Nat} (hs : s < 4) (hx : x < 5) (h : post (L (5 * s + x))) : wpX_about post (L, im, re) (nI s) (nI x) := by
  unfold wpX_about
  dsimp only
  rw [ps_ix5, nI_clamp (by omega)]
  exact ⟨vp_in_nI (by omega) (by omega), h⟩
theorem xp_ab {post : Int32 → Prop} {s x : Nat} {y : Int32} (hs : s < 4) (hx : x < 5) (e : L (5 * s + x) = y) (h : post y) : wpX_about post (L, im, re) (nI s) (nI x) :=
  xp_about hs hx (by rw [e]; exact h)
theorem xp_lies {post : Int32 → Prop} {s x y : Nat} {p : Nat → Bool} (hs : s < 4) (hx : x < 5) (hy : y < 5) (e : L (5 * s + x) = nI (ps_ms p)) (h : post (zz_b (p y))) : wpX_lies post (L, im, re) (nI s) (nI x) (nI y) := by
  unfold wpX_lies
  dsimp only
  rw [ps_ix5, nI_clamp (by omega), e]
  refine ⟨vp_in_nI (by omega) (by omega), ?_⟩
  have k := xp_in (post := post) (ps_ms_lt p) hy (by rw [ps_ms_tb p y hy]; exact h)
  exact k
theorem xp_imageOf {post : Int32 → Prop} {m x : Nat} (hm : m < 3125) (hx : x < 5) (h : post (nI (ps_dg m x))) : wpX_imageOf post (nI m) (nI x) := by
  unfold wpX_imageOf
  refine ps_lq (fun n a i => wX_imageOf_4 post (nI x) n a i) (fun i => nI (m / 5 ^ i)) x (by simp) (fun n => ?_) (fun n i hi k => ?_)
  · exact br_t (zz_le x) ⟨by decide, zz_v (P := post) (ps_dR hm x) h⟩
  · exact br_f (nI_ge hi (by omega)) ⟨by decide, nm_r (ps_dD hm i) (nm_r (nI_1 i) k)⟩
theorem xp_isOpenSet {post : Int32 → Prop} {s v : Nat} {R : Nat → Nat → Bool} (hs : s < 4) (hv : v < 32) (hL : ps_S L s R) (h : post (zz_b (ps_OP R v))) : wpX_isOpenSet post (L, im, re) (nI s) (nI v) := by
  unfold wpX_isOpenSet
  dsimp only
  refine ps_lex (fun n x => wX_isOpenSet_2 post (nI s) (nI v) L im re n x) post (fun x => !v.testBit x || ps_al 5 (fun y => !R x y || v.testBit y)) 5 (fun hp n => ?_) (fun n i hi ht hf => ?_) h
  · exact br_t (zz_le 5) hp
  · refine br_f (nI_ge (b := 5) hi (by decide)) (xp_in hv hi (zz_br (fun e => ?_) (fun e => ?_)))
    · exact nm_r (nI_1 i) (ht (by simp [e]))
    · refine xp_ab hs hi (hL i hi) ?_
      have q := ps_sb_k _ (ps_ms_lt (R i)) v hv
      have q2 : ps_sb (ps_ms (R i)) v = ps_al 5 (fun y => !R i y || v.testBit y) := ps_al_cg (fun y hy => by rw [ps_ms_tb (R i) y hy])
      cases z : ps_al 5 (fun y => !R i y || v.testBit y) with
      | true => exact br_t (q.mpr (q2.trans z)) (nm_r (nI_1 i) (ht (by simp [z])))
      | false => exact br_f (fun w => by rw [q.mp w, z] at q2; exact absurd q2 (by decide)) (hf (by simp [e, z]))
theorem xp_count {post : Int32 → Prop} {s : Nat} {R : Nat → Nat → Bool} (hs : s < 4) (hL : ps_S L s R) (h : post (nI (ps_cn 32 (ps_OP R)))) : wpX_count post (L, im, re) (nI s) := by
  unfold wpX_count
  dsimp only
  refine ps_lq (fun n a i => wX_count_4 post (nI s) L im re n a i) (fun i => nI (ps_cn i (ps_OP R))) 32 rfl (fun n => br_t (zz_le 32) h) (fun n i hi k => ?_)
  refine br_f (nI_ge (b := 32) hi (by decide)) (xp_isOpenSet hs hi hL (zz_br (fun e => ?_) (fun e => ?_)))
  · exact nm_r ((ps_a0 _).trans (congrArg nI (ps_cnf e).symm)) (nm_r (nI_1 i) k)
  · exact nm_r ((nI_1 _).trans (congrArg nI (ps_cnt e).symm)) (nm_r (nI_1 i) k)
theorem xp_closureOf {post : Int32 → Prop} {s v : Nat} {R : Nat → Nat → Bool} (hs : s < 4) (hv : v < 32) (hL : ps_S L s R) (h : post (nI (ps_cl R v))) : wpX_closureOf post (L, im, re) (nI s) (nI v) := by
  unfold wpX_closureOf
  dsimp only
  refine ps_lq (fun n a i => wX_closureOf_5 post (nI s) (nI v) L im re n a i) (fun i => nI (ps_ms (ps_pf (fun x => ps_ex 5 (fun y => R x y && v.testBit y)) i))) 5 (congrArg nI (ps_pf0 _)) (fun n => br_t (zz_le 5) (zz_v (P := post) (congrArg nI (ps_pf5 _)) h)) (fun n i hi k => ?_)
  refine br_f (nI_ge (b := 5) hi (by decide)) (xp_ab hs hi (hL i hi) ?_)
  have q := ps_mt_k _ (ps_ms_lt (R i)) v hv
  have q2 : ps_mt (ps_ms (R i)) v = ps_ex 5 (fun y => R i y && v.testBit y) := ps_ex_cg (fun y hy => by rw [ps_ms_tb (R i) y hy])
  cases z : ps_ex 5 (fun y => R i y && v.testBit y) with
  | false => exact br_t (q.mpr (q2.trans z)) (nm_r ((ps_o0 _).trans (ps_pff z)) (nm_r (nI_1 i) k))
  | true => exact br_f (fun w => by rw [q.mp w, z] at q2; exact absurd q2 (by decide)) (nm_r (ps_pft hi z) (nm_r (nI_1 i) k))
theorem xp_innerOf {post : Int32 → Prop} {s v : Nat} {R : Nat → Nat → Bool} (hs : s < 4) (hv : v < 32) (hL : ps_S L s R) (h : post (nI (ps_inn R v))) : wpX_innerOf post (L, im, re) (nI s) (nI v) := by
  unfold wpX_innerOf
  dsimp only
  refine ps_lq (fun n a i => wX_innerOf_5 post (nI s) (nI v) L im re n a i) (fun i => nI (ps_ms (ps_pf (fun x => ps_al 5 (fun y => !R x y || v.testBit y)) i))) 5 (congrArg nI (ps_pf0 _)) (fun n => br_t (zz_le 5) (zz_v (P := post) (congrArg nI (ps_pf5 _)) h)) (fun n i hi k => ?_)
  refine br_f (nI_ge (b := 5) hi (by decide)) (xp_ab hs hi (hL i hi) ?_)
  have q := ps_sb_k _ (ps_ms_lt (R i)) v hv
  have q2 : ps_sb (ps_ms (R i)) v = ps_al 5 (fun y => !R i y || v.testBit y) := ps_al_cg (fun y hy => by rw [ps_ms_tb (R i) y hy])
  cases z : ps_al 5 (fun y => !R i y || v.testBit y) with
  | true => exact br_t (q.mpr (q2.trans z)) (nm_r (ps_pft hi z) (nm_r (nI_1 i) k))
  | false => exact br_f (fun w => by rw [q.mp w, z] at q2; exact absurd q2 (by decide)) (nm_r ((ps_o0 _).trans (ps_pff z)) (nm_r (nI_1 i) k))
theorem xp_comingTo {post : Int32 → Prop} {m v : Nat} (hm : m < 3125) (hv : v < 32) (h : post (nI (ps_cm m v))) : wpX_comingTo post (nI m) (nI v) := by
  unfold wpX_comingTo
  refine ps_lq (fun n a i => wX_comingTo_4 post (nI m) (nI v) n a i) (fun i => nI (ps_ms (ps_pf (fun x => v.testBit (ps_dg m x)) i))) 5 (congrArg nI (ps_pf0 _)) (fun n => br_t (zz_le 5) (zz_v (P := post) (congrArg nI (ps_pf5 _)) h)) (fun n i hi k => ?_)
  refine br_f (nI_ge (b := 5) hi (by decide)) (xp_imageOf hm hi (xp_in hv (ps_dg_lt m i) (zz_br (fun e => ?_) (fun e => ?_))))
  · exact nm_r ((ps_o0 _).trans (ps_pff e)) (nm_r (nI_1 i) k)
  · exact nm_r (ps_pft (P := fun x => v.testBit (ps_dg m x)) hi e) (nm_r (nI_1 i) k)
theorem xp_takenTo {post : Int32 → Prop} {m v : Nat} (hm : m < 3125) (hv : v < 32) (h : post (nI (ps_tk m v))) : wpX_takenTo post (nI m) (nI v) := by
  unfold wpX_takenTo
  refine ps_lq (fun n a i => wX_takenTo_4 post (nI m) (nI v) n a i) (fun i => nI (ps_ms (fun y => ps_ex i (fun x => v.testBit x && decide (y = ps_dg m x))))) 5 rfl (fun n => br_t (zz_le 5) h) (fun n i hi k => ?_)
  refine br_f (nI_ge (b := 5) hi (by decide)) (xp_imageOf hm hi (xp_in hv hi (zz_br (fun e => ?_) (fun e => ?_))))
  · refine nm_r (e' := nI (ps_ms (fun y => ps_ex (i + 1) (fun x => v.testBit x && decide (y = ps_dg m x))))) ?_ (nm_r (nI_1 i) k)
    refine (ps_o0 _).trans (congrArg nI (ps_ms_cg fun y _ => ?_))
    show _ = (ps_ex i _ || (v.testBit i && decide (y = ps_dg m i)))
    rw [e, Bool.false_and, Bool.or_false]
  · refine nm_r (e' := nI (ps_ms (fun y => ps_ex (i + 1) (fun x => v.testBit x && decide (y = ps_dg m x))))) ?_ (nm_r (nI_1 i) k)
    refine (ps_or1 _ (ps_dg_lt m i)).trans (congrArg nI (ps_ms_cg fun y _ => ?_))
    show _ = (ps_ex i _ || (v.testBit i && decide (y = ps_dg m i)))
    rw [e, Bool.true_and]
theorem ps_adT {R : Nat → Nat → Bool} {v i : Nat} (hv : v < 32) (e : v.testBit i = true) : nI (ps_ms (R i)) &&& nI v = nI (ps_ms (ps_ad R v i)) := by
  have k := ps_and (R i) (fun j => v.testBit j)
  rw [ps_ms_self hv] at k
  rw [k]
  refine congrArg nI (ps_ms_cg fun y _ => ?_)
  show _ = (R i y && (!v.testBit i || v.testBit y))
  rw [e]; simp
theorem ps_adF {R : Nat → Nat → Bool} {v i : Nat} (e : v.testBit i = false) : nI (ps_ms (R i)) = nI (ps_ms (ps_ad R v i)) := by
  refine congrArg nI (ps_ms_cg fun y _ => ?_)
  show _ = (R i y && (!v.testBit i || v.testBit y))
  rw [e]; simp
theorem xp_addOpen {post : SX → Prop} {s v : Nat} {R : Nat → Nat → Bool} (hs : s < 4) (hv : v < 32) (hL : ps_S L s R) (h : post (ps_nl L s (ps_ad R v), im, re)) : wpX_addOpen post (L, im, re) (nI s) (nI v) := by
  unfold wpX_addOpen
  dsimp only
  refine ps_lq (fun n a i => wX_addOpen_2 post (nI s) (nI v) n i a im re) (fun i => ps_pu L (5 * s) i (fun x => nI (ps_ms (ps_ad R v x)))) 5 (ps_pu0 L _ _) (fun n => br_t (zz_le 5) h) (fun n i hi k => ?_)
  refine br_f (nI_ge (b := 5) hi (by decide)) (xp_in hv hi (zz_br (fun e => ?_) (fun e => ?_)))
  · refine nm_r (nI_1 i) ?_
    have q := ps_puN L (5 * s) i (fun x => nI (ps_ms (ps_ad R v x))) ((hL i hi).trans (ps_adF e))
    rw [q]
    exact k
  · skip
    rw [ps_ix5, nI_clamp (by omega), ps_puO L _ (by omega), hL i hi]
    have w : vp_in (nI (5 * s + i)) 20 := vp_in_nI (by omega) (by omega)
    exact ⟨w, w, nm_r (ps_puS L (5 * s) i _ (ps_adT hv e)) (nm_r (nI_1 i) k)⟩
theorem xp_settle {post : SX → Prop} {s : Nat} {Q : Nat → Nat → Bool} (hs : s < 3) (hL : ps_S L 3 Q) (h : post (ps_nl L s Q, im, re)) : wpX_settle post (L, im, re) (nI s) := by
  unfold wpX_settle
  dsimp only
  refine ps_lq (fun n a i => wX_settle_2 post (nI s) n i a im re) (fun i => ps_pu L (5 * s) i (fun x => nI (ps_ms (Q x)))) 5 (ps_pu0 L _ _) (fun n => br_t (zz_le 5) h) (fun n i hi k => ?_)
  refine br_f (nI_ge (b := 5) hi (by decide)) ?_
  rw [ps_ix5, ps_ix15, nI_clamp (by omega), nI_clamp (by omega), ps_puO L _ (by omega), hL i hi]
  exact ⟨vp_in_nI (by omega) (by omega), vp_in_nI (by omega) (by omega), nm_r (ps_puS L (5 * s) i _ rfl) (nm_r (nI_1 i) k)⟩
theorem ps_ws_o (R : Nat → Nat → Bool) (o : Nat) : ps_ms (ps_ws R o o) = ps_ms (R o) := ps_ms_cg fun y _ => by
  show (R o y || (R o o && R o y)) = R o y
  cases R o y <;> cases R o o <;> rfl
theorem xp_cs12 {post : SX → Prop} {J : Int32 → (Nat → Int32) → (Nat → Int32) → (Nat → Int32) → Prop} {o : Nat} {R : Nat → Nat → Bool} (ho : o < 5) (hL : ps_S L 3 R) (h : J (nI (o + 1)) (ps_nl L 3 (ps_ws R o)) im re) : ∃ n, wX_closeSpare_12 post J 15 (nI o) n 0 L im re := by
  refine ps_lq (fun n a i => wX_closeSpare_12 post J 15 (nI o) n i a im re) (fun i => ps_pu L (5 * 3) i (fun x => nI (ps_ms (ps_ws R o x)))) 5 (ps_pu0 L _ _) (fun n => br_t (zz_le 5) (nm_r (nI_1 o) h)) (fun n i hi k => ?_)
  refine br_f (nI_ge (b := 5) hi (by decide)) ?_
  have ro : ps_pu L (5 * 3) i (fun x => nI (ps_ms (ps_ws R o x))) (5 * 3 + o) = nI (ps_ms (R o)) := by
    rcases Nat.lt_or_ge o i with c | c
    · rw [ps_puI L _ c, ps_ws_o]
    · rw [ps_puO L _ (by omega), hL o ho]
  have ri : ps_pu L (5 * 3) i (fun x => nI (ps_ms (ps_ws R o x))) (5 * 3 + i) = nI (ps_ms (R i)) := by
    rw [ps_puO L _ (by omega), hL i hi]
  rw [ps_ix15, ps_ix15, nI_clamp (by omega), nI_clamp (by omega), ri, ro]
  have w : vp_in (nI (5 * 3 + i)) 20 := vp_in_nI (by omega) (by omega)
  refine ⟨w, w, xp_in (ps_ms_lt (R i)) ho ?_⟩
  rw [ps_ms_tb (R i) o ho]
  refine zz_br (fun e => ?_) (fun e => ?_)
  · refine ⟨w, nm_r (ps_puS L (5 * 3) i _ ?_) (nm_r (nI_1 i) k)⟩
    refine (ps_o0 _).trans (congrArg nI (ps_ms_cg fun y _ => ?_))
    show R i y = (R i y || (R i o && R o y))
    rw [e]; simp
  · refine ⟨vp_in_nI (by omega) (by omega), w, nm_r (ps_puS L (5 * 3) i _ ?_) (nm_r (nI_1 i) k)⟩
    refine (ps_or _ _).trans (congrArg nI (ps_ms_cg fun y _ => ?_))
    show (R i y || R o y) = (R i y || (R i o && R o y))
    rw [e]; simp
theorem xp_closeSpare {post : SX → Prop} {R : Nat → Nat → Bool} (hL : ps_S L 3 R) (h : post (ps_nl L 3 (ps_wk R 5), im, re)) : wpX_closeSpare post (L, im, re) := by
  unfold wpX_closeSpare
  dsimp only
  refine ps_lq (fun n a i => wX_closeSpare_5 post 15 n i a im re) (fun i => ps_nl L 3 (ps_wk R i)) 5 (ps_nl_self hL) (fun n => br_t (zz_le 5) h) (fun n i hi k => ?_)
  refine br_f (nI_ge (b := 5) hi (by decide)) (xp_cs12 hi (ps_S_nl L 3 (ps_wk R i)) ?_)
  rw [ps_nl_nl]
  exact k
end
end
section
/-! Y's small methods: each with a general post -/
def ps_wq (p : Nat → Bool) (S w q : Nat) : Bool := p (q / 32) && p (q % 32) && decide (w = q / 32 ||| (q % 32 &&& S))
/-- what 'with' gives -/
def ps_wth (p : Nat → Bool) (S : Nat) : Nat → Bool := fun w => p w || ps_ex 1024 (ps_wq p S w)
def ps_jn (p q : Nat → Bool) : Nat → Nat → Bool
  | 0 => p
  | i + 1 => if q i then ps_wth (ps_jn p q i) i else ps_jn p q i
/-- what 'innerPart' gives -/
def ps_yi (p : Nat → Bool) (S : Nat) : Nat := ps_ms (fun y => ps_ex 32 (fun v => p v && ps_sb v S && v.testBit y))
def ps_yc (p : Nat → Bool) (S : Nat) : Nat := 31 - ps_yi p (31 - S)
def ps_lw (p : Nat → Bool) (x : Nat) : Nat := ps_ms (fun y => ps_al 32 (fun v => !(p v && v.testBit x) || v.testBit y))
def ps_ct (p q : Nat → Bool) (m : Nat) : Bool := ps_al 32 (fun v => !q v || p (ps_cm m v))
def ps_bk (p q : Nat → Bool) (m : Nat) : Bool := ps_al 32 (fun v => !p v || q (ps_tk m v))
theorem ps_cm_lt (m v : Nat) : ps_cm m v < 32 := ps_ms_lt _
theorem ps_tk_lt (m v : Nat) : ps_tk m v < 32 := ps_ms_lt _
theorem ps_yc_lt (p : Nat → Bool) (S : Nat) : ps_yc p S < 32 := by unfold ps_yc; omega
theorem ps_fp0 (P : Nat → Bool) : ps_fm (ps_pf P 0) = 0 := (ps_fm_cg (fun i _ => by simp [ps_pf])).trans ps_fm_0
theorem ps_fp32 (P : Nat → Bool) : ps_fm (ps_pf P 32) = ps_fm P := ps_fm_cg (fun i hi => by simp [ps_pf, hi])
theorem ps_fpt {P : Nat → Bool} {x : Nat} (hx : x < 32) (e : P x = true) : ps_fm (ps_pf P x) ||| ((1 : Int32) <<< (nI x &&& 31)) = ps_fm (ps_pf P (x + 1)) := by
  rw [ps_fm_or _ hx]
  refine ps_fm_cg fun i hi => ?_
  show (decide (i < x) && P i || decide (i = x)) = (decide (i < x + 1) && P i)
  by_cases c : i = x
  · subst c; simp [e]
  · have k : (i < x + 1) ↔ (i < x) := by omega
    simp [c, k]
theorem ps_fpf {P : Nat → Bool} {x : Nat} (e : P x = false) : ps_fm (ps_pf P x) = ps_fm (ps_pf P (x + 1)) := by
  refine ps_fm_cg fun i hi => ?_
  show (decide (i < x) && P i) = (decide (i < x + 1) && P i)
  by_cases c : i = x
  · subst c; simp [e]
  · have k : (i < x + 1) ↔ (i < x) := by omega
    simp [k]

section
variable {F ma tr : Nat → Int32}
theorem yp_in {post : Int32 → Prop} {p : Nat → Bool} {v : Nat} (hv : v < 32) (h : post (zz_b (p v))) : wpY_in post (F, ma, tr) (ps_fm p) (nI v) := by
  unfold wpY_in
  dsimp only
  have q := ps_fin (ps_fm p) hv
  rw [ps_fm_b p v hv] at q
  cases e : p v with
  | true => rw [e] at h; exact br_t (q.mpr e) h
  | false =>
    rw [e] at h
    exact br_f (fun z => by rw [q.mp z] at e; exact absurd e (by decide)) h
theorem yp_has {post : Int32 → Prop} {v x : Nat} (hv : v < 32) (hx : x < 5) (h : post (zz_b (v.testBit x))) : wpY_has post (F, ma, tr) (nI v) (nI x) := by
  have k := xp_in (post := post) hv hx h
  exact k
theorem yp_count {post : Int32 → Prop} {p : Nat → Bool} (h : post (nI (ps_cn 32 p))) : wpY_count post (F, ma, tr) (ps_fm p) := by
  unfold wpY_count
  dsimp only
  refine ps_lq (fun n a i => wY_count_4 post (ps_fm p) F ma tr n a i) (fun i => nI (ps_cn i p)) 32 rfl (fun n => br_t (zz_le 32) h) (fun n i hi k => ?_)
  refine br_f (nI_ge (b := 32) hi (by decide)) (yp_in hi (zz_br (fun e => ?_) (fun e => ?_)))
  · refine nm_r (nI_1 i) ?_
    rw [ps_cnf e] at k
    exact k
  · exact nm_r ((nI_1 _).trans (congrArg nI (ps_cnt e).symm)) (nm_r (nI_1 i) k)
theorem yp_with {post : Int32 → Prop} {p : Nat → Bool} {S : Nat} (hS : S < 32) (h : post (ps_fm (ps_wth p S))) : wpY_with post (F, ma, tr) (ps_fm p) (nI S) := by
  unfold wpY_with
  dsimp only
  refine ps_lq (fun n a i => wY_with_5 post (ps_fm p) (nI S) F ma tr n a i) (fun i => ps_fm (fun w => p w || ps_ex i (ps_wq p S w))) 1024 (ps_fm_cg (fun w _ => Bool.or_false _)) (fun n => br_t (zz_le 1024) h) (fun n i hi k => ?_)
  have d1 : i / 32 < 32 := by omega
  have d2 : i % 32 < 32 := by omega
  have e1 : nI i / 32 = nI (i / 32) := pk_div (d := 32) (by omega) (by decide) (by decide)
  have e2 : nI i - nI i / 32 * 32 = nI (i % 32) := pk_rem (d := 32) (by omega) (by decide) (by decide)
  have N : (p (i / 32) && p (i % 32)) = false → ps_fm (fun w => p w || ps_ex i (ps_wq p S w)) = ps_fm (fun w => p w || ps_ex (i + 1) (ps_wq p S w)) := by
    intro z
    refine ps_fm_cg fun w _ => ?_
    show _ = (p w || (ps_ex i (ps_wq p S w) || (p (i / 32) && p (i % 32) && decide (w = i / 32 ||| (i % 32 &&& S)))))
    rw [z, Bool.false_and, Bool.or_false]
  refine br_f (nI_ge (b := 1024) hi (by decide)) ⟨by decide, nm_r e1 ⟨by decide, nm_r e2 (yp_in d1 (zz_br (fun z1 => ?_) (fun z1 => yp_in d2 (zz_br (fun z2 => ?_) (fun z2 => ?_)))))⟩⟩
  · refine nm_r (nI_1 i) ?_
    rw [N (by rw [z1]; rfl)]
    exact k
  · refine nm_r (nI_1 i) ?_
    rw [N (by rw [z2, Bool.and_false])]
    exact k
  · have r : i / 32 ||| (i % 32 &&& S) < 32 := ps_or_lt _ d1 _ (ps_and_lt _ d2 _ hS)
    refine nm_r (e' := ps_fm (fun w => p w || ps_ex (i + 1) (ps_wq p S w))) ?_ (nm_r (nI_1 i) k)
    rw [ps_and_k _ d2 _ hS, ps_or_k _ d1 _ (ps_and_lt _ d2 _ hS), ps_fm_or _ r]
    refine ps_fm_cg fun w _ => ?_
    show _ = (p w || (ps_ex i (ps_wq p S w) || (p (i / 32) && p (i % 32) && decide (w = i / 32 ||| (i % 32 &&& S)))))
    rw [z1, z2, Bool.or_assoc]
    simp
theorem yp_joined {post : Int32 → Prop} {p q : Nat → Bool} (h : post (ps_fm (ps_jn p q 32))) : wpY_joined post (F, ma, tr) (ps_fm p) (ps_fm q) := by
  unfold wpY_joined
  dsimp only
  refine ps_lq (fun n a i => wY_joined_5 post (ps_fm q) F ma tr n a i) (fun i => ps_fm (ps_jn p q i)) 32 rfl (fun n => br_t (zz_le 32) h) (fun n i hi k => ?_)
  refine br_f (nI_ge (b := 32) hi (by decide)) (yp_in hi (zz_br (fun e => ?_) (fun e => yp_with hi ?_)))
  · refine nm_r (nI_1 i) ?_
    have z : ps_jn p q (i + 1) = ps_jn p q i := by simp [ps_jn, e]
    rw [z] at k
    exact k
  · refine nm_r (nI_1 i) ?_
    have z : ps_jn p q (i + 1) = ps_wth (ps_jn p q i) i := by simp [ps_jn, e]
    rw [z] at k
    exact k
theorem yp_tied {post : Int32 → Prop} {p : Nat → Bool} {a b : Nat} (ha : a < 5) (hb : b < 5) (h : post (ps_fm (fun w => p w && (!w.testBit a || w.testBit b)))) : wpY_tied post (F, ma, tr) (ps_fm p) (nI a) (nI b) := by
  unfold wpY_tied
  dsimp only
  refine ps_lq (fun n c i => wY_tied_6 post (ps_fm p) (nI a) (nI b) F ma tr n c i) (fun i => ps_fm (ps_pf (fun w => p w && (!w.testBit a || w.testBit b)) i)) 32 (ps_fp0 _) (fun n => br_t (zz_le 32) (zz_v (P := post) (ps_fp32 _) h)) (fun n i hi k => ?_)
  have T : (p i && (!i.testBit a || i.testBit b)) = true → wY_tied_43 post (wY_tied_6 post (ps_fm p) (nI a) (nI b) F ma tr n) (ps_fm p) (nI a) (nI b) (ps_fm (ps_pf (fun w => p w && (!w.testBit a || w.testBit b)) i)) (nI i) F ma tr := fun z =>
    nm_r (ps_fpt (P := fun w => p w && (!w.testBit a || w.testBit b)) hi z) (nm_r (nI_1 i) k)
  have N : (p i && (!i.testBit a || i.testBit b)) = false → ∀ y : Int32, y = nI i + 1 → wY_tied_6 post (ps_fm p) (nI a) (nI b) F ma tr n (ps_fm (ps_pf (fun w => p w && (!w.testBit a || w.testBit b)) i)) y := fun z => by
    refine nm_r (nI_1 i) ?_
    rw [ps_fpf (P := fun w => p w && (!w.testBit a || w.testBit b)) z]
    exact k
  refine br_f (nI_ge (b := 32) hi (by decide)) (yp_in hi (zz_br (fun e => N (by rw [e]; rfl)) (fun e => yp_has hi ha (zz_br (fun e1 => T (by rw [e, e1]; rfl)) (fun e1 => yp_has hi hb (zz_br (fun e2 => N (by rw [e, e1, e2]; rfl)) (fun e2 => T (by rw [e, e1, e2]; rfl))))))))
theorem yp_turned {post : Int32 → Prop} {p : Nat → Bool} (h : post (ps_fm (fun w => p (31 - w)))) : wpY_turned post (F, ma, tr) (ps_fm p) := by
  unfold wpY_turned
  dsimp only
  have z0 : ps_fm (fun w => decide (31 - w < 0) && p (31 - w)) = 0 := (ps_fm_cg (fun w _ => by simp)).trans ps_fm_0
  have z1 : ps_fm (fun w => decide (31 - w < 32) && p (31 - w)) = ps_fm (fun w => p (31 - w)) := ps_fm_cg (fun w _ => by
    rw [decide_eq_true (show 31 - w < 32 by omega), Bool.true_and])
  refine ps_lq (fun n c i => wY_turned_4 post (ps_fm p) F ma tr n c i) (fun i => ps_fm (fun w => decide (31 - w < i) && p (31 - w))) 32 z0 (fun n => br_t (zz_le 32) (zz_v (P := post) z1 h)) (fun n i hi k => ?_)
  refine br_f (nI_ge (b := 32) hi (by decide)) (yp_in hi (zz_br (fun e => nm_r (nI_1 i) ?_) (fun e => nm_r (e' := ps_fm (fun w => decide (31 - w < i + 1) && p (31 - w))) ?_ (nm_r (nI_1 i) k))))
  · have z : ps_fm (fun w => decide (31 - w < i) && p (31 - w)) = ps_fm (fun w => decide (31 - w < i + 1) && p (31 - w)) := ps_fm_cg (fun w hw => by
      by_cases c : 31 - w = i
      · rw [c, e, Bool.and_false, Bool.and_false]
      · have q : (31 - w < i + 1) ↔ (31 - w < i) := by omega
        simp only [q])
    rw [z]
    exact k
  · rw [ps_sub_k i hi, ps_fm_or _ (show 31 - i < 32 by omega)]
    refine ps_fm_cg fun w hw => ?_
    by_cases c : 31 - w = i
    · have q : w = 31 - i := by omega
      rw [decide_eq_true q, c, e, decide_eq_true (show i < i + 1 by omega)]; simp
    · have q : (31 - w < i + 1) ↔ (31 - w < i) := by omega
      have q2 : ¬ w = 31 - i := by omega
      simp only [q, decide_eq_false q2, Bool.or_false]
theorem yp_image {post : Int32 → Prop} {m x : Nat} (hm : m < 3125) (hx : x < 5) (h : post (nI (ps_dg m x))) : wpY_image post (F, ma, tr) (nI m) (nI x) := by
  unfold wpY_image
  dsimp only
  refine ps_lq (fun n a i => wY_image_5 post (nI x) F ma tr n a i) (fun i => nI (m / 5 ^ i)) x (by simp) (fun n => ?_) (fun n i hi k => ?_)
  · exact br_t (zz_le x) ⟨by decide, zz_v (P := post) (ps_dR hm x) h⟩
  · exact br_f (nI_ge hi (by omega)) ⟨by decide, nm_r (ps_dD hm i) (nm_r (nI_1 i) k)⟩
theorem yp_comesTo {post : Int32 → Prop} {m v : Nat} (hm : m < 3125) (hv : v < 32) (h : post (nI (ps_cm m v))) : wpY_comesTo post (F, ma, tr) (nI m) (nI v) := by
  unfold wpY_comesTo
  dsimp only
  refine ps_lq (fun n a i => wY_comesTo_5 post (nI m) (nI v) F ma tr n a i) (fun i => nI (ps_ms (ps_pf (fun x => v.testBit (ps_dg m x)) i))) 5 (congrArg nI (ps_pf0 _)) (fun n => br_t (zz_le 5) (zz_v (P := post) (congrArg nI (ps_pf5 _)) h)) (fun n i hi k => ?_)
  refine br_f (nI_ge (b := 5) hi (by decide)) (yp_image hm hi (yp_has hv (ps_dg_lt m i) (zz_br (fun e => ?_) (fun e => ?_))))
  · refine nm_r (nI_1 i) ?_
    rw [ps_pff (P := fun x => v.testBit (ps_dg m x)) e]
    exact k
  · exact nm_r (ps_pft (P := fun x => v.testBit (ps_dg m x)) hi e) (nm_r (nI_1 i) k)
theorem yp_pulled {post : Int32 → Prop} {m : Nat} {p : Nat → Bool} (hm : m < 3125) (h : post (ps_fm (fun w => ps_ex 32 (fun v => p v && decide (w = ps_cm m v))))) : wpY_pulled post (F, ma, tr) (ps_fm p) (nI m) := by
  unfold wpY_pulled
  dsimp only
  refine ps_lq (fun n a i => wY_pulled_5 post (ps_fm p) (nI m) F ma tr n a i) (fun i => ps_fm (fun w => ps_ex i (fun v => p v && decide (w = ps_cm m v)))) 32 ps_fm_0 (fun n => br_t (zz_le 32) h) (fun n i hi k => ?_)
  refine br_f (nI_ge (b := 32) hi (by decide)) (yp_comesTo hm hi (yp_in hi (zz_br (fun e => nm_r (nI_1 i) ?_) (fun e => nm_r (e' := ps_fm (fun w => ps_ex (i + 1) (fun v => p v && decide (w = ps_cm m v)))) ?_ (nm_r (nI_1 i) k)))))
  · have z : ps_fm (fun w => ps_ex i (fun v => p v && decide (w = ps_cm m v))) = ps_fm (fun w => ps_ex (i + 1) (fun v => p v && decide (w = ps_cm m v))) := ps_fm_cg (fun w _ => by
      show _ = (ps_ex i _ || (p i && decide (w = ps_cm m i)))
      rw [e, Bool.false_and, Bool.or_false])
    rw [z]
    exact k
  · refine (ps_fm_or _ (ps_cm_lt m i)).trans (ps_fm_cg fun w _ => ?_)
    show _ = (ps_ex i _ || (p i && decide (w = ps_cm m i)))
    rw [e, Bool.true_and]
theorem yp_pushed {post : Int32 → Prop} {m : Nat} {p : Nat → Bool} (hm : m < 3125) (h : post (ps_fm (fun w => p (ps_cm m w)))) : wpY_pushed post (F, ma, tr) (ps_fm p) (nI m) := by
  unfold wpY_pushed
  dsimp only
  refine ps_lq (fun n a i => wY_pushed_5 post (ps_fm p) (nI m) F ma tr n a i) (fun i => ps_fm (ps_pf (fun w => p (ps_cm m w)) i)) 32 (ps_fp0 _) (fun n => br_t (zz_le 32) (zz_v (P := post) (ps_fp32 _) h)) (fun n i hi k => ?_)
  refine br_f (nI_ge (b := 32) hi (by decide)) (yp_comesTo hm hi (yp_in (ps_cm_lt m i) (zz_br (fun e => nm_r (nI_1 i) ?_) (fun e => nm_r (ps_fpt (P := fun w => p (ps_cm m w)) hi e) (nm_r (nI_1 i) k)))))
  rw [ps_fpf (P := fun w => p (ps_cm m w)) e]
  exact k
theorem yp_take {post : Int32 → SY → Prop} {s : Nat} {p : Nat → Bool} (hs : s < 3) (h : post (nI (ps_cn 32 p)) (upd F s (ps_fm p), ma, tr)) : wpY_take post (F, ma, tr) (nI s) (ps_fm p) := by
  unfold wpY_take
  dsimp only
  rw [nI_clamp (by omega)]
  exact ⟨vp_in_nI hs (by decide), nm_e (yp_count h)⟩
theorem yp_innerPart {post : Int32 → Prop} {p : Nat → Bool} {S : Nat} (hS : S < 32) (h : post (nI (ps_yi p S))) : wpY_innerPart post (F, ma, tr) (ps_fm p) (nI S) := by
  unfold wpY_innerPart
  dsimp only
  refine ps_lq (fun n a i => wY_innerPart_5 post (ps_fm p) (nI S) F ma tr n a i) (fun i => nI (ps_ms (fun y => ps_ex i (fun v => p v && ps_sb v S && v.testBit y)))) 32 rfl (fun n => br_t (zz_le 32) h) (fun n i hi k => ?_)
  have N : (p i && ps_sb i S) = false → ∀ y : Int32, y = nI i + 1 → wY_innerPart_5 post (ps_fm p) (nI S) F ma tr n (nI (ps_ms (fun y => ps_ex i (fun v => p v && ps_sb v S && v.testBit y)))) y := fun z => by
    refine nm_r (nI_1 i) ?_
    have q : ps_ms (fun y => ps_ex i (fun v => p v && ps_sb v S && v.testBit y)) = ps_ms (fun y => ps_ex (i + 1) (fun v => p v && ps_sb v S && v.testBit y)) := ps_ms_cg (fun y _ => by
      show _ = (ps_ex i _ || (p i && ps_sb i S && i.testBit y))
      rw [z, Bool.false_and, Bool.or_false])
    rw [q]
    exact k
  refine br_f (nI_ge (b := 32) hi (by decide)) (yp_in hi (zz_br (fun e => N (by rw [e]; rfl)) (fun e => ?_)))
  have q := ps_sb_k i hi S hS
  cases z : ps_sb i S with
  | false => exact br_f (fun w => by rw [q.mp w] at z; exact absurd z (by decide)) (N (by rw [e, z]; rfl))
  | true =>
    refine br_t (q.mpr z) (nm_r (e' := nI (ps_ms (fun y => ps_ex (i + 1) (fun v => p v && ps_sb v S && v.testBit y)))) ?_ (nm_r (nI_1 i) k))
    have w := ps_or (fun y => ps_ex i (fun v => p v && ps_sb v S && v.testBit y)) (fun y => i.testBit y)
    rw [ps_ms_self hi] at w
    refine w.trans (congrArg nI (ps_ms_cg fun y _ => ?_))
    show _ = (ps_ex i _ || (p i && ps_sb i S && i.testBit y))
    rw [e, z]; simp
theorem yp_closureOf {post : Int32 → Prop} {p : Nat → Bool} {S : Nat} (hS : S < 32) (h : post (nI (ps_yc p S))) : wpY_closureOf post (F, ma, tr) (ps_fm p) (nI S) := by
  unfold wpY_closureOf
  dsimp only
  rw [ps_sub_k S hS]
  refine yp_innerPart (by omega) ?_
  rw [ps_sub_k (ps_yi p (31 - S)) (ps_ms_lt _)]
  exact h
theorem yp_leastWith {post : Int32 → Prop} {p : Nat → Bool} {x : Nat} (hx : x < 5) (h : post (nI (ps_lw p x))) : wpY_leastWith post (F, ma, tr) (ps_fm p) (nI x) := by
  unfold wpY_leastWith
  dsimp only
  refine ps_lq (fun n a i => wY_leastWith_6 post (ps_fm p) (nI x) F ma tr n a i) (fun i => nI (ps_ms (fun y => ps_al i (fun v => !(p v && v.testBit x) || v.testBit y)))) 32 rfl (fun n => br_t (zz_le 32) h) (fun n i hi k => ?_)
  have N : (p i && i.testBit x) = false → ∀ y : Int32, y = nI i + 1 → wY_leastWith_6 post (ps_fm p) (nI x) F ma tr n (nI (ps_ms (fun y => ps_al i (fun v => !(p v && v.testBit x) || v.testBit y)))) y := fun z => by
    refine nm_r (nI_1 i) ?_
    have q : ps_ms (fun y => ps_al i (fun v => !(p v && v.testBit x) || v.testBit y)) = ps_ms (fun y => ps_al (i + 1) (fun v => !(p v && v.testBit x) || v.testBit y)) := ps_ms_cg (fun y _ => by
      show _ = (ps_al i _ && (!(p i && i.testBit x) || i.testBit y))
      rw [z]; simp)
    rw [q]
    exact k
  refine br_f (nI_ge (b := 32) hi (by decide)) (yp_in hi (zz_br (fun e => N (by rw [e]; rfl)) (fun e => yp_has hi hx (zz_br (fun e1 => N (by rw [e, e1]; rfl)) (fun e1 => ?_)))))
  refine nm_r (e' := nI (ps_ms (fun y => ps_al (i + 1) (fun v => !(p v && v.testBit x) || v.testBit y)))) ?_ (nm_r (nI_1 i) k)
  have w := ps_and (fun y => ps_al i (fun v => !(p v && v.testBit x) || v.testBit y)) (fun y => i.testBit y)
  rw [ps_ms_self hi] at w
  refine w.trans (congrArg nI (ps_ms_cg fun y _ => ?_))
  show _ = (ps_al i _ && (!(p i && i.testBit x) || i.testBit y))
  rw [e, e1]; simp
theorem yp_both {post : Int32 → Prop} {s : Nat} {p : Nat → Bool} (hs : s < 3) (hF : F s = ps_fm p) (h : post (ps_fm (fun w => p w && p (31 - w)))) : wpY_both post (F, ma, tr) (nI s) := by
  unfold wpY_both
  dsimp only
  rw [nI_clamp (by omega), hF]
  have w : vp_in (nI s) 3 := vp_in_nI hs (by decide)
  refine ⟨w, w, yp_turned ?_⟩
  rw [ps_fm_and]
  exact h
theorem yp_pointClosure {post : Int32 → Prop} {s x : Nat} {p : Nat → Bool} (hs : s < 3) (hx : x < 5) (hF : F s = ps_fm p) (h : post (nI (ps_yc p (2 ^ x)))) : wpY_pointClosure post (F, ma, tr) (nI s) (nI x) := by
  unfold wpY_pointClosure
  dsimp only
  rw [nI_clamp (by omega), hF, ps_1x x hx]
  exact ⟨vp_in_nI hs (by decide), yp_closureOf (ps_2lt x hx) h⟩
theorem yp_taken {post : Int32 → Prop} {m v : Nat} (hm : m < 3125) (hv : v < 32) (h : post (nI (ps_tk m v))) : wpY_taken post (F, ma, tr) (nI m) (nI v) := by
  unfold wpY_taken
  dsimp only
  refine ps_lq (fun n a i => wY_taken_5 post (nI m) (nI v) F ma tr n a i) (fun i => nI (ps_ms (fun y => ps_ex i (fun x => v.testBit x && decide (y = ps_dg m x))))) 5 rfl (fun n => br_t (zz_le 5) h) (fun n i hi k => ?_)
  refine br_f (nI_ge (b := 5) hi (by decide)) (yp_has hv hi (zz_br (fun e => nm_r (nI_1 i) ?_) (fun e => yp_image hm hi (nm_r (e' := nI (ps_ms (fun y => ps_ex (i + 1) (fun x => v.testBit x && decide (y = ps_dg m x))))) ?_ (nm_r (nI_1 i) k)))))
  · have z : ps_ms (fun y => ps_ex i (fun x => v.testBit x && decide (y = ps_dg m x))) = ps_ms (fun y => ps_ex (i + 1) (fun x => v.testBit x && decide (y = ps_dg m x))) := ps_ms_cg (fun y _ => by
      show _ = (ps_ex i _ || (v.testBit i && decide (y = ps_dg m i)))
      rw [e, Bool.false_and, Bool.or_false])
    rw [z]
    exact k
  · refine (ps_or1 _ (ps_dg_lt m i)).trans (congrArg nI (ps_ms_cg fun y _ => ?_))
    show _ = (ps_ex i _ || (v.testBit i && decide (y = ps_dg m i)))
    rw [e, Bool.true_and]
theorem yp_isContinuous {post : Int32 → Prop} {s t m : Nat} {p q : Nat → Bool} (hs : s < 3) (ht : t < 3) (hm : m < 3125) (hp : F s = ps_fm p) (hq : F t = ps_fm q) (h : post (zz_b (ps_ct p q m))) : wpY_isContinuous post (F, ma, tr) (nI s) (nI t) (nI m) := by
  unfold wpY_isContinuous
  dsimp only
  refine ps_lex (fun n x => wY_isContinuous_3 post (nI s) (nI t) (nI m) F ma tr n x) post (fun v => !q v || p (ps_cm m v)) 32 (fun hp n => br_t (zz_le 32) hp) (fun n i hi ht' hf => ?_) h
  refine br_f (nI_ge (b := 32) hi (by decide)) ⟨vp_in_nI ht (by decide), ?_⟩
  rw [nI_clamp (show t < 2 ^ 31 by omega), hq]
  refine yp_in hi (zz_br (fun e => nm_r (nI_1 i) (ht' (by simp [e]))) (fun e => ⟨vp_in_nI hs (by decide), yp_comesTo hm hi ?_⟩))
  rw [nI_clamp (show s < 2 ^ 31 by omega), hp]
  exact yp_in (ps_cm_lt m i) (zz_br (fun e1 => hf (by simp [e, e1])) (fun e1 => nm_r (nI_1 i) (ht' (by simp [e1]))))
theorem yp_isBack {post : Int32 → Prop} {s t m : Nat} {p q : Nat → Bool} (hs : s < 3) (ht : t < 3) (hm : m < 3125) (hp : F s = ps_fm p) (hq : F t = ps_fm q) (h : post (zz_b (ps_bk p q m))) : wpY_isBack post (F, ma, tr) (nI s) (nI t) (nI m) := by
  unfold wpY_isBack
  dsimp only
  refine ps_lq (fun n a i => wY_isBack_6 post (nI s) (nI t) (nI m) F ma tr n a i) (fun i => zz_b (ps_al i (fun v => !p v || q (ps_tk m v)))) 32 rfl (fun n => br_t (zz_le 32) ⟨zz_nar _, h⟩) (fun n i hi k => ?_)
  have T : (!p i || q (ps_tk m i)) = true → ps_al i (fun v => !p v || q (ps_tk m v)) = true → ∀ y : Int32, y = nI i + 1 → wY_isBack_6 post (nI s) (nI t) (nI m) F ma tr n 1 y := fun z1 z2 => by
    refine nm_r (nI_1 i) ?_
    have w : ps_al (i + 1) (fun v => !p v || q (ps_tk m v)) = true := by
      show (ps_al i _ && (!p i || q (ps_tk m i))) = true
      rw [z1, z2]; rfl
    rw [w] at k
    exact k
  have N : ((ps_al i (fun v => !p v || q (ps_tk m v))) && (!p i || q (ps_tk m i))) = false → ∀ y : Int32, y = nI i + 1 → wY_isBack_6 post (nI s) (nI t) (nI m) F ma tr n 0 y := fun z => by
    refine nm_r (nI_1 i) ?_
    have w : ps_al (i + 1) (fun v => !p v || q (ps_tk m v)) = false := z
    rw [w] at k
    exact k
  refine br_f (nI_ge (b := 32) hi (by decide)) (zz_br (fun z => N (by rw [z]; rfl)) (fun z => ⟨vp_in_nI hs (by decide), ?_⟩))
  rw [nI_clamp (show s < 2 ^ 31 by omega), hp]
  refine yp_in hi (zz_br (fun e => T (by simp [e]) z) (fun e => ⟨vp_in_nI ht (by decide), yp_taken hm hi ?_⟩))
  rw [nI_clamp (show t < 2 ^ 31 by omega), hq]
  exact yp_in (ps_tk_lt m i) (zz_br (fun e1 => N (by rw [z, e, e1]; rfl)) (fun e1 => T (by simp [e1]) z))
end
end
section
/-! pure laws: preorders on five points and the sets that they keep -/
theorem zz_imp {a b : Bool} : (!a || b) = true ↔ (a = true → b = true) := by cases a <;> cases b <;> simp
theorem zz_and {a b : Bool} : (a && b) = true ↔ (a = true ∧ b = true) := by cases a <;> cases b <;> simp
theorem zz_or {a b : Bool} : (a || b) = true ↔ (a = true ∨ b = true) := by cases a <;> cases b <;> simp
theorem zz_not {a : Bool} : (!a) = true ↔ ¬ a = true := by cases a <;> simp
def ps_Pre (R : Nat → Nat → Bool) : Prop := (∀ x, x < 5 → R x x = true) ∧ (∀ x y z, x < 5 → y < 5 → z < 5 → R x y = true → R y z = true → R x z = true)
theorem ps_OP_iff {R : Nat → Nat → Bool} {v : Nat} : ps_OP R v = true ↔ ∀ x, x < 5 → v.testBit x = true → ∀ y, y < 5 → R x y = true → v.testBit y = true := by
  unfold ps_OP
  rw [ps_al_iff]
  constructor
  · intro h x hx b y hy r
    exact zz_imp.mp (ps_al_iff.mp (zz_imp.mp (h x hx) b) y hy) r
  · intro h x hx
    exact zz_imp.mpr (fun b => ps_al_iff.mpr (fun y hy => zz_imp.mpr (fun r => h x hx b y hy r)))
theorem ps_OP_cg {R Q : Nat → Nat → Bool} (h : ∀ x, x < 5 → ∀ y, y < 5 → R x y = Q x y) (v : Nat) : ps_OP R v = ps_OP Q v := by
  apply zz_bq
  rw [ps_OP_iff, ps_OP_iff]
  exact ⟨fun g x hx b y hy r => g x hx b y hy ((h x hx y hy).trans r), fun g x hx b y hy r => g x hx b y hy ((h x hx y hy).symm.trans r)⟩
theorem ps_up {R : Nat → Nat → Bool} (hR : ps_Pre R) {x : Nat} (hx : x < 5) : ps_OP R (ps_ms (R x)) = true := by
  rw [ps_OP_iff]
  intro y hy b z hz r
  rw [ps_ms_tb _ y hy] at b
  rw [ps_ms_tb _ z hz]
  exact hR.2 x y z hx hy hz b r
theorem ps_OP_R {R : Nat → Nat → Bool} (hR : ps_Pre R) {x y : Nat} (hx : x < 5) (hy : y < 5) : R x y = true ↔ ∀ v, v < 32 → ps_OP R v = true → v.testBit x = true → v.testBit y = true := by
  constructor
  · intro r v _ o b
    exact ps_OP_iff.mp o x hx b y hy r
  · intro h
    have k := h (ps_ms (R x)) (ps_ms_lt _) (ps_up hR hx) (by rw [ps_ms_tb _ x hx]; exact hR.1 x hx)
    rw [ps_ms_tb _ y hy] at k
    exact k
theorem ps_OP_inj {R Q : Nat → Nat → Bool} (hR : ps_Pre R) (hQ : ps_Pre Q) (h : ∀ v, v < 32 → ps_OP R v = ps_OP Q v) : ∀ x, x < 5 → ∀ y, y < 5 → R x y = Q x y := by
  intro x hx y hy
  apply zz_bq
  rw [ps_OP_R hR hx hy, ps_OP_R hQ hx hy]
  exact ⟨fun g v hv o => g v hv ((h v hv).trans o), fun g v hv o => g v hv ((h v hv).symm.trans o)⟩
theorem ps_0 (R : Nat → Nat → Bool) : ps_OP R 0 = true := by
  rw [ps_OP_iff]
  intro x _ b
  rw [ps_00] at b
  exact absurd b (by decide)
theorem ps_all (R : Nat → Nat → Bool) : ps_OP R 31 = true := by
  rw [ps_OP_iff]
  intro _ _ _ y hy _
  exact ps_31 y hy

/-! with -/
theorem ps_ad_iff {R : Nat → Nat → Bool} {S x y : Nat} : ps_ad R S x y = true ↔ R x y = true ∧ (S.testBit x = true → S.testBit y = true) := by
  unfold ps_ad
  rw [zz_and, zz_imp]
theorem ps_ad_Pre {R : Nat → Nat → Bool} (hR : ps_Pre R) (S : Nat) : ps_Pre (ps_ad R S) := by
  constructor
  · intro x hx
    exact ps_ad_iff.mpr ⟨hR.1 x hx, fun b => b⟩
  · intro x y z hx hy hz a b
    rw [ps_ad_iff] at a b ⊢
    exact ⟨hR.2 x y z hx hy hz a.1 b.1, fun c => b.2 (a.2 c)⟩
theorem ps_wth_cg {p q : Nat → Bool} {S w : Nat} (hw : w < 32) (h : ∀ i, i < 32 → p i = q i) : ps_wth p S w = ps_wth q S w := by
  unfold ps_wth
  rw [h w hw]
  refine congrArg _ (ps_ex_cg fun i hi => ?_)
  unfold ps_wq
  rw [h (i / 32) (by omega), h (i % 32) (by omega)]
theorem ps_inn_tb {R : Nat → Nat → Bool} {w x : Nat} (hx : x < 5) : (ps_inn R w).testBit x = true ↔ ∀ y, y < 5 → R x y = true → w.testBit y = true := by
  unfold ps_inn
  rw [ps_ms_tb _ x hx, ps_al_iff]
  exact ⟨fun h y hy => zz_imp.mp (h y hy), fun h y hy => zz_imp.mpr (h y hy)⟩
theorem ps_cl_tb {R : Nat → Nat → Bool} {w x : Nat} (hx : x < 5) : (ps_cl R w).testBit x = true ↔ ∃ y, y < 5 ∧ R x y = true ∧ w.testBit y = true := by
  unfold ps_cl
  rw [ps_ms_tb _ x hx, ps_ex_iff]
  exact ⟨fun ⟨y, hy, h⟩ => ⟨y, hy, zz_and.mp h⟩, fun ⟨y, hy, h⟩ => ⟨y, hy, zz_and.mpr h⟩⟩
theorem ps_inn_OP {R : Nat → Nat → Bool} (hR : ps_Pre R) (w : Nat) : ps_OP R (ps_inn R w) = true := by
  rw [ps_OP_iff]
  intro x hx b y hy r
  rw [ps_inn_tb hx] at b
  rw [ps_inn_tb hy]
  intro z hz q
  exact b z hz (hR.2 x y z hx hy hz r q)
theorem ps_with_OP {R : Nat → Nat → Bool} (hR : ps_Pre R) {S : Nat} (hS : S < 32) : ∀ w, w < 32 → ps_wth (ps_OP R) S w = ps_OP (ps_ad R S) w := by
  intro w hw
  apply zz_bq
  unfold ps_wth
  rw [zz_or, ps_ex_iff, ps_OP_iff (R := ps_ad R S)]
  constructor
  · rintro (h | ⟨q, hq, h⟩)
    · rw [ps_OP_iff] at h
      intro x hx b y hy r
      exact h x hx b y hy (ps_ad_iff.mp r).1
    · unfold ps_wq at h
      rw [zz_and, zz_and, decide_eq_true_eq] at h
      obtain ⟨⟨ha, hb⟩, e⟩ := h
      rw [ps_OP_iff] at ha hb
      intro x hx b y hy r
      rw [ps_ad_iff] at r
      rw [e, Nat.testBit_or, Nat.testBit_and, zz_or, zz_and] at b ⊢
      rcases b with b | b
      · exact Or.inl (ha x hx b y hy r.1)
      · exact Or.inr ⟨hb x hx b.1 y hy r.1, r.2 b.2⟩
  · intro h
    right
    have hb : ps_OP R (ps_ms (fun y => ps_ex 5 (fun x => w.testBit x && S.testBit x && R x y))) = true := by
      rw [ps_OP_iff]
      intro y hy b z hz r
      rw [ps_ms_tb _ y hy, ps_ex_iff] at b
      rw [ps_ms_tb _ z hz, ps_ex_iff]
      obtain ⟨x, hx, c⟩ := b
      rw [zz_and, zz_and] at c
      exact ⟨x, hx, zz_and.mpr ⟨zz_and.mpr c.1, hR.2 x y z hx hy hz c.2 r⟩⟩
    have la := ps_ms_lt (fun x => ps_al 5 (fun y => !R x y || w.testBit y))
    have lb := ps_ms_lt (fun y => ps_ex 5 (fun x => w.testBit x && S.testBit x && R x y))
    refine ⟨ps_inn R w * 32 + ps_ms (fun y => ps_ex 5 (fun x => w.testBit x && S.testBit x && R x y)), ?_, ?_⟩
    · unfold ps_inn; omega
    · unfold ps_wq
      rw [show (ps_inn R w * 32 + ps_ms (fun y => ps_ex 5 (fun x => w.testBit x && S.testBit x && R x y))) / 32 = ps_inn R w by omega, show (ps_inn R w * 32 + ps_ms (fun y => ps_ex 5 (fun x => w.testBit x && S.testBit x && R x y))) % 32 = ps_ms (fun y => ps_ex 5 (fun x => w.testBit x && S.testBit x && R x y)) by omega]
      rw [ps_inn_OP hR w, hb, Bool.true_and, Bool.true_and, decide_eq_true_eq]
      refine ps_tb hw (ps_or_lt _ la _ (ps_and_lt _ lb _ hS)) (fun x hx => zz_bq ?_)
      rw [Nat.testBit_or, Nat.testBit_and, zz_or, zz_and, ps_inn_tb hx, ps_ms_tb _ x hx, ps_ex_iff]
      constructor
      · intro b
        cases c : S.testBit x with
        | true => exact Or.inr ⟨⟨x, hx, zz_and.mpr ⟨zz_and.mpr ⟨b, c⟩, hR.1 x hx⟩⟩, rfl⟩
        | false => exact Or.inl (fun y hy r => h x hx b y hy (ps_ad_iff.mpr ⟨r, fun d => by rw [c] at d; exact absurd d (by decide)⟩))
      · rintro (b | ⟨⟨z, hz, b⟩, c⟩)
        · exact b x hx (hR.1 x hx)
        · rw [zz_and, zz_and] at b
          exact h z hz b.1.1 x hx (ps_ad_iff.mpr ⟨b.2, fun _ => c⟩)

/-! join -/
def ps_jr (R T : Nat → Nat → Bool) : Nat → Nat → Nat → Bool
  | 0 => R
  | i + 1 => if ps_OP T i then ps_ad (ps_jr R T i) i else ps_jr R T i
theorem ps_jr_t {R T : Nat → Nat → Bool} {i : Nat} (e : ps_OP T i = true) : ps_jr R T (i + 1) = ps_ad (ps_jr R T i) i := by simp [ps_jr, e]
theorem ps_jr_f {R T : Nat → Nat → Bool} {i : Nat} (e : ps_OP T i = false) : ps_jr R T (i + 1) = ps_jr R T i := by simp [ps_jr, e]
theorem ps_jr_Pre {R T : Nat → Nat → Bool} (hR : ps_Pre R) : ∀ i, ps_Pre (ps_jr R T i) := by
  intro i
  induction i with
  | zero => exact hR
  | succ i ih =>
    cases e : ps_OP T i with
    | true => rw [ps_jr_t e]; exact ps_ad_Pre ih i
    | false => rw [ps_jr_f e]; exact ih
theorem ps_jr_iff {R T : Nat → Nat → Bool} {x y : Nat} : ∀ i, ps_jr R T i x y = true ↔ R x y = true ∧ ∀ v, v < i → ps_OP T v = true → v.testBit x = true → v.testBit y = true := by
  intro i
  induction i with
  | zero => exact ⟨fun h => ⟨h, fun v hv => absurd hv (Nat.not_lt_zero v)⟩, fun h => h.1⟩
  | succ i ih =>
    cases e : ps_OP T i with
    | true =>
      rw [ps_jr_t e, ps_ad_iff, ih]
      constructor
      · rintro ⟨⟨a, b⟩, c⟩
        refine ⟨a, fun v hv o => ?_⟩
        rcases Nat.lt_or_ge v i with z | z
        · exact b v z o
        · have k : v = i := by omega
          rw [k]; exact c
      · rintro ⟨a, b⟩
        exact ⟨⟨a, fun v hv => b v (by omega)⟩, b i (by omega) e⟩
    | false =>
      rw [ps_jr_f e, ih]
      constructor
      · rintro ⟨a, b⟩
        refine ⟨a, fun v hv o => ?_⟩
        rcases Nat.lt_or_ge v i with z | z
        · exact b v z o
        · have k : v = i := by omega
          rw [k, e] at o; exact absurd o (by decide)
      · rintro ⟨a, b⟩
        exact ⟨a, fun v hv => b v (by omega)⟩
theorem ps_jn_OP {R T : Nat → Nat → Bool} (hR : ps_Pre R) : ∀ i, i ≤ 32 → ∀ w, w < 32 → ps_jn (ps_OP R) (ps_OP T) i w = ps_OP (ps_jr R T i) w := by
  intro i
  induction i with
  | zero => intro _ w _; rfl
  | succ i ih =>
    intro hi w hw
    cases e : ps_OP T i with
    | true =>
      have z : ps_jn (ps_OP R) (ps_OP T) (i + 1) = ps_wth (ps_jn (ps_OP R) (ps_OP T) i) i := by simp [ps_jn, e]
      rw [z, ps_jr_t e, ps_wth_cg hw (fun j hj => ih (by omega) j hj)]
      exact ps_with_OP (ps_jr_Pre hR i) (by omega) w hw
    | false =>
      have z : ps_jn (ps_OP R) (ps_OP T) (i + 1) = ps_jn (ps_OP R) (ps_OP T) i := by simp [ps_jn, e]
      rw [z, ps_jr_f e]
      exact ih (by omega) w hw
def ps_jo (R T : Nat → Nat → Bool) : Nat → Nat → Bool := fun x y => R x y && T x y
theorem ps_jo_Pre {R T : Nat → Nat → Bool} (hR : ps_Pre R) (hT : ps_Pre T) : ps_Pre (ps_jo R T) := by
  constructor
  · intro x hx
    exact zz_and.mpr ⟨hR.1 x hx, hT.1 x hx⟩
  · intro x y z hx hy hz a b
    have a := zz_and.mp a
    have b := zz_and.mp b
    exact zz_and.mpr ⟨hR.2 x y z hx hy hz a.1 b.1, hT.2 x y z hx hy hz a.2 b.2⟩
theorem ps_join_OP {R T : Nat → Nat → Bool} (hR : ps_Pre R) (hT : ps_Pre T) : ∀ w, w < 32 → ps_jn (ps_OP R) (ps_OP T) 32 w = ps_OP (ps_jo R T) w := by
  intro w hw
  rw [ps_jn_OP hR 32 (Nat.le_refl 32) w hw]
  refine ps_OP_cg (fun x hx y hy => zz_bq ?_) w
  rw [ps_jr_iff, ← ps_OP_R hT hx hy]
  exact zz_and.symm

/-! tie -/
def ps_ti (R : Nat → Nat → Bool) (a b : Nat) : Nat → Nat → Bool := fun x y => R x y || (R x a && R b y)
theorem ps_ti_iff {R : Nat → Nat → Bool} {a b x y : Nat} : ps_ti R a b x y = true ↔ R x y = true ∨ (R x a = true ∧ R b y = true) := by
  unfold ps_ti
  rw [zz_or, zz_and]
theorem ps_ti_Pre {R : Nat → Nat → Bool} (hR : ps_Pre R) {a b : Nat} (ha : a < 5) (hb : b < 5) : ps_Pre (ps_ti R a b) := by
  constructor
  · intro x hx
    exact ps_ti_iff.mpr (Or.inl (hR.1 x hx))
  · intro x y z hx hy hz p q
    rw [ps_ti_iff] at p q ⊢
    rcases p with p | p
    · rcases q with q | q
      · exact Or.inl (hR.2 x y z hx hy hz p q)
      · exact Or.inr ⟨hR.2 x y a hx hy ha p q.1, q.2⟩
    · rcases q with q | q
      · exact Or.inr ⟨p.1, hR.2 b y z hb hy hz p.2 q⟩
      · exact Or.inr ⟨p.1, q.2⟩
theorem ps_tie_OP {R : Nat → Nat → Bool} (hR : ps_Pre R) {a b : Nat} (ha : a < 5) (hb : b < 5) (w : Nat) : (ps_OP R w && (!w.testBit a || w.testBit b)) = ps_OP (ps_ti R a b) w := by
  apply zz_bq
  rw [zz_and, zz_imp, ps_OP_iff, ps_OP_iff]
  constructor
  · rintro ⟨h, g⟩ x hx c y hy r
    rcases ps_ti_iff.mp r with r | r
    · exact h x hx c y hy r
    · exact h b hb (g (h x hx c a ha r.1)) y hy r.2
  · intro h
    exact ⟨fun x hx c y hy r => h x hx c y hy (ps_ti_iff.mpr (Or.inl r)), fun c => h a ha c b hb (ps_ti_iff.mpr (Or.inr ⟨hR.1 a ha, hR.1 b hb⟩))⟩

/-! turn -/
def ps_tn (R : Nat → Nat → Bool) : Nat → Nat → Bool := fun x y => R y x
theorem ps_tn_Pre {R : Nat → Nat → Bool} (hR : ps_Pre R) : ps_Pre (ps_tn R) :=
  ⟨fun x hx => hR.1 x hx, fun x y z hx hy hz p q => hR.2 z y x hz hy hx q p⟩
theorem ps_turn_OP {R : Nat → Nat → Bool} : ∀ w, w < 32 → ps_OP R (31 - w) = ps_OP (ps_tn R) w := by
  intro w hw
  apply zz_bq
  rw [ps_OP_iff, ps_OP_iff]
  have K : ∀ x, x < 5 → ((31 - w).testBit x = true ↔ ¬ w.testBit x = true) := fun x hx => by
    rw [ps_co w hw x hx, zz_not]
  constructor
  · intro h x hx b y hy r
    apply Classical.byContradiction
    intro c
    exact (K x hx).mp (h y hy ((K y hy).mpr c) x hx r) b
  · intro h x hx b y hy r
    rw [K y hy]
    intro c
    exact (K x hx).mp b (h y hy c x hx r)

/-! the closing -/
theorem ps_ws_iff {R : Nat → Nat → Bool} {o x y : Nat} : ps_ws R o x y = true ↔ R x y = true ∨ (R x o = true ∧ R o y = true) := by
  unfold ps_ws
  rw [zz_or, zz_and]
theorem ps_wk_refl {R : Nat → Nat → Bool} (h : ∀ x, x < 5 → R x x = true) : ∀ k x, x < 5 → ps_wk R k x x = true := by
  intro k
  induction k with
  | zero => exact h
  | succ k ih => intro x hx; exact ps_ws_iff.mpr (Or.inl (ih x hx))
theorem ps_wk_tr {R : Nat → Nat → Bool} : ∀ k, k ≤ 5 → ∀ z, z < k → ∀ x, x < 5 → ∀ y, y < 5 → ps_wk R k x z = true → ps_wk R k z y = true → ps_wk R k x y = true := by
  intro k
  induction k with
  | zero => intro _ z hz; exact absurd hz (Nat.not_lt_zero z)
  | succ k ih =>
    intro hk z hz x hx y hy p q
    have ih := ih (by omega)
    have p : ps_ws (ps_wk R k) k x z = true := p
    have q : ps_ws (ps_wk R k) k z y = true := q
    show ps_ws (ps_wk R k) k x y = true
    rw [ps_ws_iff] at p q ⊢
    rcases Nat.lt_or_ge z k with c | c
    · rcases p with p | p
      · rcases q with q | q
        · exact Or.inl (ih z c x hx y hy p q)
        · exact Or.inr ⟨ih z c x hx k (by omega) p q.1, q.2⟩
      · rcases q with q | q
        · exact Or.inr ⟨p.1, ih z c k (by omega) y hy p.2 q⟩
        · exact Or.inr ⟨p.1, q.2⟩
    · have e : z = k := by omega
      subst e
      have p1 : ps_wk R z x z = true := by rcases p with p | p; exact p; exact p.1
      have q1 : ps_wk R z z y = true := by rcases q with q | q; exact q; exact q.2
      exact Or.inr ⟨p1, q1⟩
theorem ps_wk_Pre {R : Nat → Nat → Bool} (h : ∀ x, x < 5 → R x x = true) : ps_Pre (ps_wk R 5) :=
  ⟨ps_wk_refl h 5, fun x y z hx hy hz p q => ps_wk_tr 5 (Nat.le_refl 5) y hy x hx z hz p q⟩
theorem ps_wk_OP {R : Nat → Nat → Bool} (v : Nat) : ∀ k, k ≤ 5 → ps_OP (ps_wk R k) v = ps_OP R v := by
  intro k
  induction k with
  | zero => intro _; rfl
  | succ k ih =>
    intro hk
    rw [← ih (by omega)]
    apply zz_bq
    show ps_OP (ps_ws (ps_wk R k) k) v = true ↔ _
    rw [ps_OP_iff, ps_OP_iff]
    constructor
    · intro h x hx b y hy r
      exact h x hx b y hy (ps_ws_iff.mpr (Or.inl r))
    · intro h x hx b y hy r
      rcases ps_ws_iff.mp r with r | r
      · exact h x hx b y hy r
      · exact h k (by omega) (h x hx b k (by omega) r.1) y hy r.2
def ps_un (R T : Nat → Nat → Bool) : Nat → Nat → Bool := fun x y => R x y || T x y
theorem ps_un_OP {R T : Nat → Nat → Bool} (v : Nat) : ps_OP (ps_un R T) v = (ps_OP R v && ps_OP T v) := by
  apply zz_bq
  rw [zz_and, ps_OP_iff, ps_OP_iff, ps_OP_iff]
  constructor
  · intro h
    exact ⟨fun x hx b y hy r => h x hx b y hy (zz_or.mpr (Or.inl r)), fun x hx b y hy r => h x hx b y hy (zz_or.mpr (Or.inr r))⟩
  · intro h x hx b y hy r
    rcases zz_or.mp r with r | r
    · exact h.1 x hx b y hy r
    · exact h.2 x hx b y hy r

/-! pull, push -/
theorem ps_cm_tb {m v x : Nat} (hx : x < 5) : (ps_cm m v).testBit x = v.testBit (ps_dg m x) := ps_ms_tb _ x hx
theorem ps_tk_tb {m v y : Nat} (hy : y < 5) : (ps_tk m v).testBit y = true ↔ ∃ x, x < 5 ∧ v.testBit x = true ∧ y = ps_dg m x := by
  unfold ps_tk
  rw [ps_ms_tb _ y hy, ps_ex_iff]
  constructor
  · rintro ⟨x, hx, h⟩
    rw [zz_and, decide_eq_true_eq] at h
    exact ⟨x, hx, h⟩
  · rintro ⟨x, hx, h⟩
    exact ⟨x, hx, by rw [zz_and, decide_eq_true_eq]; exact h⟩
def ps_pl (T : Nat → Nat → Bool) (m : Nat) : Nat → Nat → Bool := fun x y => T (ps_dg m x) (ps_dg m y)
theorem ps_pl_Pre {T : Nat → Nat → Bool} (hT : ps_Pre T) (m : Nat) : ps_Pre (ps_pl T m) :=
  ⟨fun x _ => hT.1 _ (ps_dg_lt m x), fun x y z _ _ _ p q => hT.2 _ _ _ (ps_dg_lt m x) (ps_dg_lt m y) (ps_dg_lt m z) p q⟩
theorem ps_pull_OP {T : Nat → Nat → Bool} (hT : ps_Pre T) (m : Nat) : ∀ w, w < 32 → ps_ex 32 (fun v => ps_OP T v && decide (w = ps_cm m v)) = ps_OP (ps_pl T m) w := by
  intro w hw
  apply zz_bq
  rw [ps_ex_iff, ps_OP_iff]
  constructor
  · rintro ⟨v, hv, h⟩ x hx b y hy r
    rw [zz_and, decide_eq_true_eq, ps_OP_iff] at h
    rw [h.2, ps_cm_tb hx] at b
    rw [h.2, ps_cm_tb hy]
    exact h.1 _ (ps_dg_lt m x) b _ (ps_dg_lt m y) r
  · intro h
    refine ⟨ps_ms (fun z => ps_ex 5 (fun x => w.testBit x && T (ps_dg m x) z)), ps_ms_lt _, ?_⟩
    rw [zz_and, decide_eq_true_eq, ps_OP_iff]
    constructor
    · intro y hy b z hz r
      rw [ps_ms_tb _ y hy, ps_ex_iff] at b
      rw [ps_ms_tb _ z hz, ps_ex_iff]
      obtain ⟨x, hx, c⟩ := b
      rw [zz_and] at c
      exact ⟨x, hx, zz_and.mpr ⟨c.1, hT.2 _ y z (ps_dg_lt m x) hy hz c.2 r⟩⟩
    · refine ps_tb hw (ps_cm_lt m _) (fun y hy => zz_bq ?_)
      rw [ps_cm_tb hy, ps_ms_tb _ _ (ps_dg_lt m y), ps_ex_iff]
      constructor
      · intro b
        exact ⟨y, hy, zz_and.mpr ⟨b, hT.1 _ (ps_dg_lt m y)⟩⟩
      · rintro ⟨x, hx, c⟩
        rw [zz_and] at c
        exact h x hx c.1 y hy c.2
def ps_ph (T : Nat → Nat → Bool) (m n : Nat) : Nat → Nat → Bool := fun y z => decide (z = y) || ps_ex n (fun x => decide (y = ps_dg m x) && (ps_tk m (ps_ms (T x))).testBit z)
theorem ps_push_OP {T : Nat → Nat → Bool} (m : Nat) (w : Nat) : ps_OP (ps_ph T m 5) w = ps_OP T (ps_cm m w) := by
  apply zz_bq
  rw [ps_OP_iff, ps_OP_iff]
  constructor
  · intro h x hx b u hu r
    rw [ps_cm_tb hx] at b
    rw [ps_cm_tb hu]
    refine h _ (ps_dg_lt m x) b _ (ps_dg_lt m u) (zz_or.mpr (Or.inr (ps_ex_iff.mpr ⟨x, hx, zz_and.mpr ⟨decide_eq_true rfl, (ps_tk_tb (ps_dg_lt m u)).mpr ⟨u, hu, ?_, rfl⟩⟩⟩)))
    rw [ps_ms_tb _ u hu]
    exact r
  · intro h y hy b z hz r
    rcases zz_or.mp r with r | r
    · rw [of_decide_eq_true r]; exact b
    · obtain ⟨x, hx, c⟩ := ps_ex_iff.mp r
      have c := zz_and.mp c
      obtain ⟨u, hu, d, e⟩ := (ps_tk_tb hz).mp c.2
      rw [ps_ms_tb _ u hu] at d
      rw [of_decide_eq_true c.1] at b
      have k := h x hx (by rw [ps_cm_tb hx]; exact b) u hu d
      rw [ps_cm_tb hu] at k
      rw [e]; exact k
theorem ps_ph_refl (T : Nat → Nat → Bool) (m n : Nat) : ∀ x, x < 5 → ps_ph T m n x x = true := fun x _ => zz_or.mpr (Or.inl (decide_eq_true rfl))

/-! inner, closure, least set -/
theorem ps_sb_iff {a b : Nat} : ps_sb a b = true ↔ ∀ i, i < 5 → a.testBit i = true → b.testBit i = true := by
  unfold ps_sb
  rw [ps_al_iff]
  exact ⟨fun h i hi => zz_imp.mp (h i hi), fun h i hi => zz_imp.mpr (h i hi)⟩
theorem ps_yi_OP {R : Nat → Nat → Bool} (hR : ps_Pre R) {S : Nat} : ps_yi (ps_OP R) S = ps_inn R S := by
  unfold ps_yi
  refine ps_tb (ps_ms_lt _) (ps_ms_lt _) (fun x hx => zz_bq ?_)
  rw [ps_ms_tb _ x hx, ps_inn_tb hx, ps_ex_iff]
  constructor
  · rintro ⟨v, hv, h⟩ y hy r
    rw [zz_and, zz_and, ps_OP_iff, ps_sb_iff] at h
    exact h.1.2 y hy (h.1.1 x hx h.2 y hy r)
  · intro h
    refine ⟨ps_ms (R x), ps_ms_lt _, ?_⟩
    rw [zz_and, zz_and, ps_sb_iff, ps_ms_tb _ x hx]
    exact ⟨⟨ps_up hR hx, fun i hi b => h i hi (by rw [ps_ms_tb _ i hi] at b; exact b)⟩, hR.1 x hx⟩
theorem ps_yc_OP {R : Nat → Nat → Bool} (hR : ps_Pre R) {S : Nat} (hS : S < 32) : ps_yc (ps_OP R) S = ps_cl R S := by
  unfold ps_yc
  rw [ps_yi_OP hR]
  refine ps_tb (by omega) (ps_ms_lt _) (fun x hx => zz_bq ?_)
  rw [ps_co (ps_inn R (31 - S)) (ps_ms_lt _) x hx, zz_not, ps_inn_tb hx, ps_cl_tb hx]
  constructor
  · intro h
    apply Classical.byContradiction
    intro g
    refine h (fun y hy r => ?_)
    rw [ps_co S hS y hy, zz_not]
    intro b
    exact g ⟨y, hy, r, b⟩
  · rintro ⟨y, hy, r, b⟩ h
    have k := h y hy r
    rw [ps_co S hS y hy, zz_not] at k
    exact k b
theorem ps_lw_OP {R : Nat → Nat → Bool} (hR : ps_Pre R) {x : Nat} (hx : x < 5) : ps_lw (ps_OP R) x = ps_ms (R x) := by
  unfold ps_lw
  refine ps_ms_cg (fun y hy => zz_bq ?_)
  rw [ps_al_iff, ps_OP_R hR hx hy]
  constructor
  · intro h v hv o b
    exact zz_imp.mp (h v hv) (zz_and.mpr ⟨o, b⟩)
  · intro h v hv
    exact zz_imp.mpr (fun c => h v hv (zz_and.mp c).1 (zz_and.mp c).2)
theorem ps_cl1 {R : Nat → Nat → Bool} {x : Nat} (hx : x < 5) : ps_cl R (2 ^ x) = ps_ms (ps_tn R x) := by
  unfold ps_cl
  refine ps_ms_cg (fun z hz => zz_bq ?_)
  rw [ps_ex_iff]
  constructor
  · rintro ⟨y, hy, h⟩
    rw [zz_and, ps_2x x hx y hy, decide_eq_true_eq] at h
    rw [h.2] at h
    exact h.1
  · intro h
    exact ⟨x, hx, zz_and.mpr ⟨h, by rw [ps_2x x hx x hx]; exact decide_eq_true rfl⟩⟩
/-! continuity -/
def ps_xc (R T : Nat → Nat → Bool) (m : Nat) : Bool := ps_al 5 (fun x => ps_sb (ps_tk m (ps_ms (R x))) (ps_ms (T (ps_dg m x))))
theorem ps_xc_iff {R T : Nat → Nat → Bool} {m : Nat} : ps_xc R T m = true ↔ ∀ x, x < 5 → ∀ u, u < 5 → R x u = true → T (ps_dg m x) (ps_dg m u) = true := by
  unfold ps_xc
  rw [ps_al_iff]
  constructor
  · intro h x hx u hu r
    have k := ps_sb_iff.mp (h x hx) (ps_dg m u) (ps_dg_lt m u) ((ps_tk_tb (ps_dg_lt m u)).mpr ⟨u, hu, by rw [ps_ms_tb _ u hu]; exact r, rfl⟩)
    rw [ps_ms_tb _ _ (ps_dg_lt m u)] at k
    exact k
  · intro h x hx
    rw [ps_sb_iff]
    intro i hi b
    obtain ⟨u, hu, c, e⟩ := (ps_tk_tb hi).mp b
    rw [ps_ms_tb _ u hu] at c
    rw [ps_ms_tb _ i hi, e]
    exact h x hx u hu c
theorem ps_ct_iff {R T : Nat → Nat → Bool} (hT : ps_Pre T) {m : Nat} : ps_ct (ps_OP R) (ps_OP T) m = true ↔ ∀ x, x < 5 → ∀ u, u < 5 → R x u = true → T (ps_dg m x) (ps_dg m u) = true := by
  unfold ps_ct
  rw [ps_al_iff]
  constructor
  · intro h x hx u hu r
    have k := ps_OP_iff.mp (zz_imp.mp (h (ps_ms (T (ps_dg m x))) (ps_ms_lt _)) (ps_up hT (ps_dg_lt m x))) x hx (by rw [ps_cm_tb hx, ps_ms_tb _ _ (ps_dg_lt m x)]; exact hT.1 _ (ps_dg_lt m x)) u hu r
    rw [ps_cm_tb hu, ps_ms_tb _ _ (ps_dg_lt m u)] at k
    exact k
  · intro h v hv
    refine zz_imp.mpr (fun o => ps_OP_iff.mpr (fun x hx b u hu r => ?_))
    rw [ps_cm_tb hx] at b
    rw [ps_cm_tb hu]
    exact ps_OP_iff.mp o _ (ps_dg_lt m x) b _ (ps_dg_lt m u) (h x hx u hu r)
theorem ps_ct_xc {R T : Nat → Nat → Bool} (hT : ps_Pre T) (m : Nat) : ps_ct (ps_OP R) (ps_OP T) m = ps_xc R T m := zz_bq (by rw [ps_ct_iff hT, ps_xc_iff])
end
section
/-! the relation; guards; the makers -/
def ps_Rl (L F : Nat → Int32) (R : Nat → Nat → Nat → Bool) : Prop := ∀ s, s < 3 → ps_Pre (R s) ∧ ps_S L s (R s) ∧ F s = ps_fm (ps_OP (R s))
def i_Rel (k : Nat) (u : SX) (v : SY) : Prop := ∃ R : Nat → Nat → Nat → Bool, ps_Rl u.1 v.1 R
theorem i_up {k : Nat} {u : SX} {v : SY} (h : i_Rel k u v) : i_Rel (k + 4) u v := h
theorem ps_Rl_new {L F : Nat → Int32} {R : Nat → Nat → Nat → Bool} (h : ps_Rl L F R) {s : Nat} {Q : Nat → Nat → Bool} (hQ : ps_Pre Q) {p : Nat → Bool} (hp : ∀ w, w < 32 → p w = ps_OP Q w) : ps_Rl (ps_nl L s Q) (upd F s (ps_fm p)) (fun t => if t = s then Q else R t) := by
  intro t ht
  show ps_Pre (if t = s then Q else R t) ∧ ps_S (ps_nl L s Q) t (if t = s then Q else R t) ∧ upd F s (ps_fm p) t = ps_fm (ps_OP (if t = s then Q else R t))
  by_cases e : t = s
  · rw [if_pos e]
    subst e
    exact ⟨hQ, ps_S_nl L t Q, pk_us.trans (ps_fm_cg hp)⟩
  · rw [if_neg e]
    exact ⟨(h t ht).1, ps_S_no e (h t ht).2.1, (pk_un e).trans (h t ht).2.2⟩
theorem ps_Rl_sp {L F : Nat → Int32} {R : Nat → Nat → Nat → Bool} (h : ps_Rl L F R) (Q : Nat → Nat → Bool) : ps_Rl (ps_nl L 3 Q) F R := fun t ht => ⟨(h t ht).1, ps_S_no (by omega) (h t ht).2.1, (h t ht).2.2⟩
theorem ps_done {k : Nat} {L F im re ma tr : Nat → Int32} {R : Nat → Nat → Nat → Bool} (h : ps_Rl L F R) {s : Nat} {Q : Nat → Nat → Bool} (hQ : ps_Pre Q) {p : Nat → Bool} (hp : ∀ w, w < 32 → p w = ps_OP Q w) : nI (ps_cn 32 p) = nI (ps_cn 32 (ps_OP Q)) ∧ i_Rel (k + 4) (ps_nl L s Q, im, re) (upd F s (ps_fm p), ma, tr) :=
  ⟨congrArg nI (ps_cn_cg hp), _, ps_Rl_new h hQ hp⟩
/-! guards -/
def ps_bd (n : Nat) (v : Int32) : Prop := v < 0 ∨ nI n ≤ v
theorem ps_cs (n : Nat) (hn : n < 2 ^ 31) (v : Int32) : ps_bd n v ∨ ∃ j, j < n ∧ v = nI j := by
  rcases pk_ix v hn with h | h | h
  · exact Or.inl (Or.inl h)
  · exact Or.inl (Or.inr h)
  · exact Or.inr h
theorem ps_gt {n : Nat} (hn : n + 1 < 2 ^ 31) {v : Int32} (h : nI (n + 1) ≤ v) : nI n < v := by
  rw [Int32.le_iff_toInt_le, nI_toInt hn] at h
  rw [Int32.lt_iff_toInt_lt, nI_toInt (by omega)]
  omega
theorem zz_10 : ¬ (1 : Int32) = 0 := by decide
theorem ps_g0 {v : Int32} {n : Nat} {A B : Prop} (h : ps_bd n v) (p : A) : (v < 0 → A) ∧ (¬ v < 0 → ((nI n ≤ v → A) ∧ (¬ nI n ≤ v → B))) := by
  by_cases c : v < 0
  · exact br_t c p
  · rcases h with h | h
    · exact absurd h c
    · exact br_f c (br_t h p)
theorem ps_g0' {v : Int32} {n : Nat} {A B : Prop} (hn : n + 1 < 2 ^ 31) (h : ps_bd (n + 1) v) (p : A) : (v < 0 → A) ∧ (¬ v < 0 → ((nI n < v → A) ∧ (¬ nI n < v → B))) := by
  by_cases c : v < 0
  · exact br_t c p
  · rcases h with h | h
    · exact absurd h c
    · exact br_f c (br_t (ps_gt hn h) p)
theorem ps_g1 {s n : Nat} {A B : Prop} (h : s < n) (hn : n < 2 ^ 31) (p : B) : (nI s < 0 → A) ∧ (¬ nI s < 0 → ((nI n ≤ nI s → A) ∧ (¬ nI n ≤ nI s → B))) := br_f (nI_pos (by omega)) (br_f (nI_ge h hn) p)
theorem ps_g1' {s n : Nat} {A B : Prop} (h : s < n + 1) (hn : n < 2 ^ 31) (p : B) : (nI s < 0 → A) ∧ (¬ nI s < 0 → ((nI n < nI s → A) ∧ (¬ nI n < nI s → B))) := br_f (nI_pos (by omega)) (br_f (nI_nlt (by omega) hn) p)
section
variable {L im re F ma tr : Nat → Int32} {post : Int32 → Prop} {v : Int32} {s : Nat}
theorem xp_sp0 (h : ps_bd 3 v) (p : post 0) : wpX_isSpace post v := ps_g0 (n := 3) h p
theorem xp_sp1 (h : s < 3) (p : post 1) : wpX_isSpace post (nI s) := ps_g1 (n := 3) h (by decide) p
theorem xp_st0 (h : ps_bd 32 v) (p : post 0) : wpX_isSet post v := ps_g0' (n := 31) (by decide) h p
theorem xp_st1 (h : s < 32) (p : post 1) : wpX_isSet post (nI s) := ps_g1' (n := 31) h (by decide) p
theorem xp_pt0 (h : ps_bd 5 v) (p : post 0) : wpX_isPoint post v := ps_g0 (n := 5) h p
theorem xp_pt1 (h : s < 5) (p : post 1) : wpX_isPoint post (nI s) := ps_g1 (n := 5) h (by decide) p
theorem xp_mp0 (h : ps_bd 3125 v) (p : post 0) : wpX_isMap post v := ps_g0 (n := 3125) h p
theorem xp_mp1 (h : s < 3125) (p : post 1) : wpX_isMap post (nI s) := ps_g1 (n := 3125) h (by decide) p
theorem yp_sp0 (h : ps_bd 3 v) (p : post 0) : wpY_isSpace post (F, ma, tr) v := ps_g0' (n := 2) (by decide) h p
theorem yp_sp1 (h : s < 3) (p : post 1) : wpY_isSpace post (F, ma, tr) (nI s) := ps_g1' (n := 2) h (by decide) p
theorem yp_st0 (h : ps_bd 32 v) (p : post 0) : wpY_isSet post (F, ma, tr) v := ps_g0' (n := 31) (by decide) h p
theorem yp_st1 (h : s < 32) (p : post 1) : wpY_isSet post (F, ma, tr) (nI s) := ps_g1' (n := 31) h (by decide) p
theorem yp_pt0 (h : ps_bd 5 v) (p : post 0) : wpY_isPoint post (F, ma, tr) v := ps_g0' (n := 4) (by decide) h p
theorem yp_pt1 (h : s < 5) (p : post 1) : wpY_isPoint post (F, ma, tr) (nI s) := ps_g1' (n := 4) h (by decide) p
theorem yp_mp0 (h : ps_bd 3125 v) (p : post 0) : wpY_isMap post (F, ma, tr) v := ps_g0' (n := 3124) (by decide) h p
theorem yp_mp1 (h : s < 3125) (p : post 1) : wpY_isMap post (F, ma, tr) (nI s) := ps_g1' (n := 3124) h (by decide) p
theorem yp_bad1 {w z : Int32} (h : ps_bd 3 v) (p : post (-1)) : wpY_bad post (F, ma, tr) v w z := by
  unfold wpY_bad
  exact yp_sp0 h (br_t rfl p)
theorem yp_bad2 {w z : Int32} (hs : s < 3) (h : ps_bd 3 w) (p : post (-1)) : wpY_bad post (F, ma, tr) (nI s) w z := by
  unfold wpY_bad
  exact yp_sp1 hs (br_f zz_10 (yp_sp0 h (br_t rfl p)))
theorem yp_bad3 {t : Nat} {z : Int32} (hs : s < 3) (ht : t < 3) (h : ps_bd 3125 z) (p : post (-2)) : wpY_bad post (F, ma, tr) (nI s) (nI t) z := by
  unfold wpY_bad
  exact yp_sp1 hs (br_f zz_10 (yp_sp1 ht (br_f zz_10 (yp_mp0 h (br_t rfl p)))))
theorem yp_good {t m : Nat} (hs : s < 3) (ht : t < 3) (hm : m < 3125) (p : post 0) : wpY_bad post (F, ma, tr) (nI s) (nI t) (nI m) := by
  unfold wpY_bad
  exact yp_sp1 hs (br_f zz_10 (yp_sp1 ht (br_f zz_10 (yp_mp1 hm (br_f zz_10 p)))))
end
/-! the constructors -/
def ps_rp : Nat → Nat → Bool := fun _ _ => true
def ps_rd : Nat → Nat → Bool := fun x y => decide (y = x)
theorem ps_rp_Pre : ps_Pre ps_rp := ⟨fun _ _ => rfl, fun _ _ _ _ _ _ _ _ => rfl⟩
theorem ps_rd_Pre : ps_Pre ps_rd := ⟨fun _ _ => decide_eq_true rfl, fun x y z _ _ _ p q => by
  have p : y = x := of_decide_eq_true p
  have q : z = y := of_decide_eq_true q
  exact decide_eq_true (q.trans p)⟩
theorem ps_plain : (-2147483647 : Int32) = ps_fm (ps_OP ps_rp) := by decide +kernel
theorem ps_loose : (-1 : Int32) = ps_fm (ps_OP ps_rd) := by decide +kernel
theorem ps_rp31 (x : Nat) : (31 : Int32) = nI (ps_ms (ps_rp x)) := rfl
theorem ps_rd1 {x : Nat} (hx : x < 5) : (1 : Int32) <<< (nI x &&& 31) = nI (ps_ms (ps_rd x)) := by
  rw [ps_1x x hx]
  exact congrArg nI (ps_ms_eq (ps_2lt x hx) (fun i hi => ps_2x x hx i hi))
theorem i_vc0 : wpX_init (fun u => wpY_init (fun v => i_Rel 0 u v)) := by
  unfold wpX_init
  refine ps_lq (fun n a i => wX_init_28 (fun u => wpY_init (fun v => i_Rel 0 u v)) n i a (fun _ => 0) (fun _ => 0)) (fun i => ps_pu (fun _ => 0) 0 i (fun _ => 31)) 20 (ps_pu0 _ _ _) (fun n => br_t (zz_le 20) ?_) (fun n i hi k => ?_)
  · unfold wpY_init
    refine ps_lq (fun n a i => wY_init_29 (fun v => i_Rel 0 (ps_pu (fun _ => 0) 0 20 (fun _ => 31), (fun _ => 0), (fun _ => 0)) v) n i a (fun _ => 0) (fun _ => 0)) (fun i => ps_pu (fun _ => 0) 0 i (fun _ => -2147483647)) 3 (ps_pu0 _ _ _) (fun n => br_t (zz_le 3) ?_) (fun n i hi k => ?_)
    · refine ⟨fun _ => ps_rp, fun s hs => ⟨ps_rp_Pre, fun x hx => ?_, ?_⟩⟩
      · have e := ps_puI (fun _ => 0) (b := 0) (n := 20) (x := 5 * s + x) (fun _ => 31) (by omega)
        rw [Nat.zero_add] at e
        exact e
      · have e := ps_puI (fun _ => 0) (b := 0) (n := 3) (x := s) (fun _ => -2147483647) (by omega)
        rw [Nat.zero_add] at e
        exact e.trans ps_plain
    · have e := ps_puS (fun _ => 0) 0 i (fun _ => (-2147483647 : Int32)) rfl
      rw [Nat.zero_add] at e
      refine br_f (nI_ge (b := 3) hi (by decide)) ⟨vp_in_nI hi (by decide), ?_⟩
      rw [nI_clamp (by omega)]
      exact nm_r e (nm_r (nI_1 i) k)
  · have e := ps_puS (fun _ => 0) 0 i (fun _ => (31 : Int32)) rfl
    rw [Nat.zero_add] at e
    refine br_f (nI_ge (b := 20) hi (by decide)) ⟨vp_in_nI hi (by decide), ?_⟩
    rw [nI_clamp (by omega)]
    exact nm_r e (nm_r (nI_1 i) k)

section
variable {L im re F ma tr : Nat → Int32}
/-! the first five makers -/
theorem xp_plain {post : Int32 → SX → Prop} {s : Nat} (hs : s < 3) (h : post (nI (ps_cn 32 (ps_OP ps_rp))) (ps_nl L s ps_rp, im, re)) : wpX_plain post (L, im, re) (nI s) := by
  unfold wpX_plain
  dsimp only
  refine xp_sp1 hs (br_f zz_10 ?_)
  refine ps_lq (fun n a i => wX_plain_11 post (nI s) n i a im re) (fun i => ps_pu L (5 * s) i (fun x => nI (ps_ms (ps_rp x)))) 5 (ps_pu0 _ _ _) (fun n => br_t (zz_le 5) (xp_count (by omega) (ps_S_nl L s ps_rp) h)) (fun n i hi k => ?_)
  refine br_f (nI_ge (b := 5) hi (by decide)) ?_
  rw [ps_ix5, nI_clamp (by omega)]
  exact ⟨vp_in_nI (by omega) (by decide), nm_r (ps_puS L (5 * s) i _ (ps_rp31 i)) (nm_r (nI_1 i) k)⟩
theorem yp_plain {post : Int32 → SY → Prop} {s : Nat} (hs : s < 3) (h : post (nI (ps_cn 32 (ps_OP ps_rp))) (upd F s (ps_fm (ps_OP ps_rp)), ma, tr)) : wpY_plain post (F, ma, tr) (nI s) := by
  unfold wpY_plain
  dsimp only
  refine yp_sp1 hs (br_f zz_10 ?_)
  rw [ps_plain]
  exact yp_take hs h
theorem xp_loose {post : Int32 → SX → Prop} {s : Nat} (hs : s < 3) (h : post (nI (ps_cn 32 (ps_OP ps_rd))) (ps_nl L s ps_rd, im, re)) : wpX_loose post (L, im, re) (nI s) := by
  unfold wpX_loose
  dsimp only
  refine xp_sp1 hs (br_f zz_10 ?_)
  refine ps_lq (fun n a i => wX_loose_11 post (nI s) n i a im re) (fun i => ps_pu L (5 * s) i (fun x => nI (ps_ms (ps_rd x)))) 5 (ps_pu0 _ _ _) (fun n => br_t (zz_le 5) (xp_count (by omega) (ps_S_nl L s ps_rd) h)) (fun n i hi k => ?_)
  refine br_f (nI_ge (b := 5) hi (by decide)) ?_
  rw [ps_ix5, nI_clamp (by omega)]
  exact ⟨vp_in_nI (by omega) (by decide), nm_r (ps_puS L (5 * s) i _ (ps_rd1 hi)) (nm_r (nI_1 i) k)⟩
theorem yp_loose {post : Int32 → SY → Prop} {s : Nat} (hs : s < 3) (h : post (nI (ps_cn 32 (ps_OP ps_rd))) (upd F s (ps_fm (ps_OP ps_rd)), ma, tr)) : wpY_loose post (F, ma, tr) (nI s) := by
  unfold wpY_loose
  dsimp only
  refine yp_sp1 hs (br_f zz_10 ?_)
  refine zz_v (P := fun y => wpY_take _ (F, ma, tr) (nI s) y) ps_loose ?_
  exact yp_take hs h
theorem xp_open {post : Int32 → SX → Prop} {s v : Nat} {R : Nat → Nat → Bool} (hs : s < 3) (hv : v < 32) (hL : ps_S L s R) (h : post (nI (ps_cn 32 (ps_OP (ps_ad R v)))) (ps_nl L s (ps_ad R v), im, re)) : wpX_open post (L, im, re) (nI s) (nI v) := by
  unfold wpX_open
  dsimp only
  exact xp_sp1 hs (br_f zz_10 (xp_st1 hv (br_f zz_10 (xp_addOpen (by omega) hv hL (xp_count (by omega) (ps_S_nl L s _) h)))))
theorem yp_open {post : Int32 → SY → Prop} {s v : Nat} {p : Nat → Bool} (hs : s < 3) (hv : v < 32) (hF : F s = ps_fm p) (h : post (nI (ps_cn 32 (ps_wth p v))) (upd F s (ps_fm (ps_wth p v)), ma, tr)) : wpY_open post (F, ma, tr) (nI s) (nI v) := by
  unfold wpY_open
  dsimp only
  refine yp_sp1 hs (br_f zz_10 (yp_st1 hv (br_f zz_10 ⟨vp_in_nI hs (by decide), ?_⟩)))
  rw [nI_clamp (by omega), hF]
  exact yp_with hv (yp_take hs h)
theorem xp_tie {post : Int32 → SX → Prop} {s a b : Nat} {R : Nat → Nat → Bool} (hs : s < 3) (ha : a < 5) (hb : b < 5) (hL : ps_S L s R) (h : post (nI (ps_cn 32 (ps_OP (ps_ti R a b)))) (ps_nl L s (ps_ti R a b), im, re)) : wpX_tie post (L, im, re) (nI s) (nI a) (nI b) := by
  unfold wpX_tie
  dsimp only
  refine xp_sp1 hs (br_f zz_10 (xp_pt1 ha (br_f zz_10 (xp_pt1 hb (br_f zz_10 (xp_ab (by omega) hb (hL b hb) ?_))))))
  refine ps_lq (fun n c i => wX_tie_37 post (nI s) (nI a) (nI (ps_ms (R b))) n i c im re) (fun i => ps_pu L (5 * s) i (fun x => nI (ps_ms (ps_ti R a b x)))) 5 (ps_pu0 _ _ _) (fun n => br_t (zz_le 5) (xp_count (by omega) (ps_S_nl L s _) h)) (fun n i hi k => ?_)
  have ri : ps_pu L (5 * s) i (fun x => nI (ps_ms (ps_ti R a b x))) (5 * s + i) = nI (ps_ms (R i)) := by
    rw [ps_puO L _ (by omega), hL i hi]
  refine br_f (nI_ge (b := 5) hi (by decide)) (xp_lies (by omega) hi ha ri (zz_br (fun e => nm_r (nI_1 i) ?_) (fun e => ?_)))
  · have q := ps_puN L (5 * s) i (fun x => nI (ps_ms (ps_ti R a b x))) ((hL i hi).trans (congrArg nI (ps_ms_cg fun y _ => by
      show R i y = (R i y || (R i a && R b y))
      rw [e]; simp)))
    rw [q]
    exact k
  · rw [ps_ix5, nI_clamp (by omega), ri]
    have w : vp_in (nI (5 * s + i)) 20 := vp_in_nI (by omega) (by decide)
    refine ⟨w, w, nm_r (ps_puS L (5 * s) i _ ?_) (nm_r (nI_1 i) k)⟩
    refine (ps_or _ _).trans (congrArg nI (ps_ms_cg fun y _ => ?_))
    show (R i y || R b y) = (R i y || (R i a && R b y))
    rw [e]; simp
theorem yp_tie {post : Int32 → SY → Prop} {s a b : Nat} {p : Nat → Bool} (hs : s < 3) (ha : a < 5) (hb : b < 5) (hF : F s = ps_fm p) (h : post (nI (ps_cn 32 (fun w => p w && (!w.testBit a || w.testBit b)))) (upd F s (ps_fm (fun w => p w && (!w.testBit a || w.testBit b))), ma, tr)) : wpY_tie post (F, ma, tr) (nI s) (nI a) (nI b) := by
  unfold wpY_tie
  dsimp only
  refine yp_sp1 hs (br_f zz_10 (yp_pt1 ha (br_f zz_10 (yp_pt1 hb (br_f zz_10 ⟨vp_in_nI hs (by decide), ?_⟩)))))
  rw [nI_clamp (by omega), hF]
  exact yp_tied ha hb (yp_take hs h)
theorem xp_turn {post : Int32 → SX → Prop} {s : Nat} {R : Nat → Nat → Bool} (hs : s < 3) (hL : ps_S L s R) (h : post (nI (ps_cn 32 (ps_OP (ps_tn R)))) (ps_nl (ps_nl L 3 (ps_tn R)) s (ps_tn R), im, re)) : wpX_turn post (L, im, re) (nI s) := by
  unfold wpX_turn
  dsimp only
  refine xp_sp1 hs (br_f zz_10 ?_)
  refine ps_lq (fun n c i => wX_turn_11 post (nI s) n i c im re) (fun i => ps_pu L (5 * 3) i (fun x => nI (ps_ms (ps_tn R x)))) 5 (ps_pu0 _ _ _) (fun n => br_t (zz_le 5) (xp_settle hs (ps_S_nl L 3 _) (xp_count (by omega) (ps_S_nl _ s _) h))) (fun n i hi k => ?_)
  refine br_f (nI_ge (b := 5) hi (by decide)) ?_
  rw [ps_1x i hi]
  refine xp_closureOf (R := R) (by omega) (ps_2lt i hi) (ps_S_pu (by omega) (by omega) hL) ?_
  rw [ps_ix15, nI_clamp (by omega)]
  exact ⟨vp_in_nI (by omega) (by decide), nm_r (ps_puS L (5 * 3) i _ (congrArg nI (ps_cl1 hi))) (nm_r (nI_1 i) k)⟩
theorem yp_turn {post : Int32 → SY → Prop} {s : Nat} {p : Nat → Bool} (hs : s < 3) (hF : F s = ps_fm p) (h : post (nI (ps_cn 32 (fun w => p (31 - w)))) (upd F s (ps_fm (fun w => p (31 - w))), ma, tr)) : wpY_turn post (F, ma, tr) (nI s) := by
  unfold wpY_turn
  dsimp only
  refine yp_sp1 hs (br_f zz_10 ⟨vp_in_nI hs (by decide), ?_⟩)
  rw [nI_clamp (by omega), hF]
  exact yp_turned (yp_take hs h)
/-! copy, join, meet -/
theorem xp_copy {post : Int32 → SX → Prop} {s t : Nat} {T : Nat → Nat → Bool} (hs : s < 3) (ht : t < 3) (hT : ps_S L t T) (h : post (nI (ps_cn 32 (ps_OP T))) (ps_nl L s T, im, re)) : wpX_copy post (L, im, re) (nI s) (nI t) := by
  unfold wpX_copy
  dsimp only
  refine xp_sp1 hs (br_f zz_10 (xp_sp1 ht (br_f zz_10 ?_)))
  refine ps_lq (fun n c i => wX_copy_18 post (nI s) (nI t) n i c im re) (fun i => ps_pu L (5 * s) i (fun x => nI (ps_ms (T x)))) 5 (ps_pu0 _ _ _) (fun n => br_t (zz_le 5) (xp_count (by omega) (ps_S_nl L s _) h)) (fun n i hi k => ?_)
  refine br_f (nI_ge (b := 5) hi (by decide)) (xp_ab (y := nI (ps_ms (T i))) (by omega) hi ((ps_puO L _ (by omega)).trans (hT i hi)) ?_)
  rw [ps_ix5, nI_clamp (by omega)]
  exact ⟨vp_in_nI (by omega) (by decide), nm_r (ps_puS L (5 * s) i _ rfl) (nm_r (nI_1 i) k)⟩
theorem yp_copy {post : Int32 → SY → Prop} {s t : Nat} {p : Nat → Bool} (hs : s < 3) (ht : t < 3) (hF : F t = ps_fm p) (h : post (nI (ps_cn 32 p)) (upd F s (ps_fm p), ma, tr)) : wpY_copy post (F, ma, tr) (nI s) (nI t) := by
  unfold wpY_copy
  dsimp only
  refine yp_sp1 hs (br_f zz_10 (yp_sp1 ht (br_f zz_10 ⟨vp_in_nI ht (by decide), ?_⟩)))
  rw [nI_clamp (by omega), hF]
  exact yp_take hs h
theorem xp_join {post : Int32 → SX → Prop} {s t : Nat} {R T : Nat → Nat → Bool} (hs : s < 3) (ht : t < 3) (hL : ps_S L s R) (hT : ps_S L t T) (h : post (nI (ps_cn 32 (ps_OP (ps_jo R T)))) (ps_nl L s (ps_jo R T), im, re)) : wpX_join post (L, im, re) (nI s) (nI t) := by
  unfold wpX_join
  dsimp only
  refine xp_sp1 hs (br_f zz_10 (xp_sp1 ht (br_f zz_10 ?_)))
  refine ps_lq (fun n c i => wX_join_18 post (nI s) (nI t) n i c im re) (fun i => ps_pu L (5 * s) i (fun x => nI (ps_ms (ps_jo R T x)))) 5 (ps_pu0 _ _ _) (fun n => br_t (zz_le 5) (xp_count (by omega) (ps_S_nl L s _) h)) (fun n i hi k => ?_)
  have w : vp_in (nI (5 * s + i)) 20 := vp_in_nI (by omega) (by decide)
  refine br_f (nI_ge (b := 5) hi (by decide)) ?_
  rw [ps_ix5, nI_clamp (by omega), ps_puO L _ (by omega), hL i hi]
  refine ⟨w, xp_ab (y := nI (ps_ms (T i))) (by omega) hi ((ps_puO L _ (by omega)).trans (hT i hi)) ⟨w, nm_r (ps_puS L (5 * s) i _ (ps_and _ _)) (nm_r (nI_1 i) k)⟩⟩
theorem yp_join {post : Int32 → SY → Prop} {s t : Nat} {p q : Nat → Bool} (hs : s < 3) (ht : t < 3) (hF : F s = ps_fm p) (hG : F t = ps_fm q) (h : post (nI (ps_cn 32 (ps_jn p q 32))) (upd F s (ps_fm (ps_jn p q 32)), ma, tr)) : wpY_join post (F, ma, tr) (nI s) (nI t) := by
  unfold wpY_join
  dsimp only
  refine yp_sp1 hs (br_f zz_10 (yp_sp1 ht (br_f zz_10 ⟨vp_in_nI hs (by decide), vp_in_nI ht (by decide), ?_⟩)))
  rw [nI_clamp (show s < 2 ^ 31 by omega), nI_clamp (show t < 2 ^ 31 by omega), hF, hG]
  exact yp_joined (yp_take hs h)
theorem xp_meet {post : Int32 → SX → Prop} {s t : Nat} {R T : Nat → Nat → Bool} (hs : s < 3) (ht : t < 3) (hL : ps_S L s R) (hT : ps_S L t T) (h : post (nI (ps_cn 32 (ps_OP (ps_wk (ps_un R T) 5)))) (ps_nl (ps_nl L 3 (ps_wk (ps_un R T) 5)) s (ps_wk (ps_un R T) 5), im, re)) : wpX_meet post (L, im, re) (nI s) (nI t) := by
  unfold wpX_meet
  dsimp only
  refine xp_sp1 hs (br_f zz_10 (xp_sp1 ht (br_f zz_10 ?_)))
  refine ps_lq (fun n c i => wX_meet_18 post (nI s) (nI t) n i c im re) (fun i => ps_pu L (5 * 3) i (fun x => nI (ps_ms (ps_un R T x)))) 5 (ps_pu0 _ _ _) (fun n => br_t (zz_le 5) (xp_closeSpare (ps_S_nl L 3 (ps_un R T)) ?_)) (fun n i hi k => ?_)
  · rw [show ps_nl (ps_pu L (5 * 3) 5 fun x => nI (ps_ms (ps_un R T x))) 3 (ps_wk (ps_un R T) 5) = ps_nl L 3 (ps_wk (ps_un R T) 5) from ps_nl_nl L 3 (ps_un R T) _]
    exact xp_settle hs (ps_S_nl L 3 _) (xp_count (by omega) (ps_S_nl _ s _) h)
  · refine br_f (nI_ge (b := 5) hi (by decide)) (xp_ab (y := nI (ps_ms (R i))) (by omega) hi ((ps_puO L _ (by omega)).trans (hL i hi)) (xp_ab (y := nI (ps_ms (T i))) (by omega) hi ((ps_puO L _ (by omega)).trans (hT i hi)) ?_))
    rw [ps_ix15, nI_clamp (by omega)]
    exact ⟨vp_in_nI (by omega) (by decide), nm_r (ps_puS L (5 * 3) i _ (ps_or _ _)) (nm_r (nI_1 i) k)⟩
theorem yp_meet {post : Int32 → SY → Prop} {s t : Nat} {p q : Nat → Bool} (hs : s < 3) (ht : t < 3) (hF : F s = ps_fm p) (hG : F t = ps_fm q) (h : post (nI (ps_cn 32 (fun w => p w && q w))) (upd F s (ps_fm (fun w => p w && q w)), ma, tr)) : wpY_meet post (F, ma, tr) (nI s) (nI t) := by
  unfold wpY_meet
  dsimp only
  refine yp_sp1 hs (br_f zz_10 (yp_sp1 ht (br_f zz_10 ⟨vp_in_nI hs (by decide), vp_in_nI ht (by decide), ?_⟩)))
  rw [nI_clamp (show s < 2 ^ 31 by omega), nI_clamp (show t < 2 ^ 31 by omega), hF, hG, ps_fm_and]
  exact yp_take hs h
/-! pull, push -/
theorem xp_pull {post : Int32 → SX → Prop} {s t m : Nat} {T : Nat → Nat → Bool} (hs : s < 3) (ht : t < 3) (hm : m < 3125) (hT : ps_S L t T) (h : post (nI (ps_cn 32 (ps_OP (ps_pl T m)))) (ps_nl (ps_nl L 3 (ps_pl T m)) s (ps_pl T m), im, re)) : wpX_pull post (L, im, re) (nI s) (nI t) (nI m) := by
  unfold wpX_pull
  dsimp only
  refine xp_sp1 hs (br_f zz_10 (xp_sp1 ht (br_f zz_10 (xp_mp1 hm (br_f zz_10 ?_)))))
  refine ps_lq (fun n c i => wX_pull_29 post (nI s) (nI t) (nI m) n i c im re) (fun i => ps_pu L (5 * 3) i (fun x => nI (ps_ms (ps_pl T m x)))) 5 (ps_pu0 _ _ _) (fun n => br_t (zz_le 5) (xp_settle hs (ps_S_nl L 3 _) (xp_count (by omega) (ps_S_nl _ s _) h))) (fun n i hi k => ?_)
  have di := ps_dg_lt m i
  refine br_f (nI_ge (b := 5) hi (by decide)) (xp_imageOf hm hi (xp_ab (y := nI (ps_ms (T (ps_dg m i)))) (by omega) di ((ps_puO L _ (by omega)).trans (hT _ di)) (xp_comingTo hm (ps_ms_lt _) ?_)))
  rw [ps_ix15, nI_clamp (by omega)]
  refine ⟨vp_in_nI (by omega) (by decide), nm_r (ps_puS L (5 * 3) i _ (congrArg nI (ps_ms_cg fun y hy => ?_))) (nm_r (nI_1 i) k)⟩
  exact ps_ms_tb _ _ (ps_dg_lt m y)
theorem yp_pull {post : Int32 → SY → Prop} {s t m : Nat} {p : Nat → Bool} (hs : s < 3) (ht : t < 3) (hm : m < 3125) (hF : F t = ps_fm p) (h : post (nI (ps_cn 32 (fun w => ps_ex 32 (fun v => p v && decide (w = ps_cm m v))))) (upd F s (ps_fm (fun w => ps_ex 32 (fun v => p v && decide (w = ps_cm m v)))), ma, tr)) : wpY_pull post (F, ma, tr) (nI s) (nI t) (nI m) := by
  unfold wpY_pull
  dsimp only
  refine yp_good hs ht hm (br_t (by decide) ⟨vp_in_nI ht (by decide), ?_⟩)
  rw [nI_clamp (by omega), hF]
  exact yp_pulled hm (yp_take hs h)
theorem xp_push58 {post : Int32 → SX → Prop} {s t m : Nat} {T : Nat → Nat → Bool} (hs : s < 3) (ht : t < 3) (hm : m < 3125) (hT : ps_S L t T) (h : post (nI (ps_cn 32 (ps_OP (ps_wk (ps_ph T m 5) 5)))) (ps_nl (ps_nl L 3 (ps_wk (ps_ph T m 5) 5)) s (ps_wk (ps_ph T m 5) 5), im, re)) : ∃ n, wX_push_58 post (nI s) (nI t) (nI m) n 0 (ps_nl L 3 (ps_ph T m 0)) im re := by
  refine ps_lq (fun n c i => wX_push_58 post (nI s) (nI t) (nI m) n i c im re) (fun i => ps_nl L 3 (ps_ph T m i)) 5 rfl (fun n => br_t (zz_le 5) (xp_closeSpare (ps_S_nl L 3 (ps_ph T m 5)) ?_)) (fun n i hi k => ?_)
  · rw [ps_nl_nl]
    exact xp_settle hs (ps_S_nl L 3 _) (xp_count (by omega) (ps_S_nl _ s _) h)
  · have di := ps_dg_lt m i
    have w : vp_in (nI (5 * 3 + ps_dg m i)) 20 := vp_in_nI (by omega) (by decide)
    refine br_f (nI_ge (b := 5) hi (by decide)) (xp_imageOf hm hi (xp_ab (y := nI (ps_ms (T i))) (by omega) hi (ps_S_no (by omega) hT i hi) ?_))
    rw [ps_ix15, nI_clamp (by omega), ps_S_nl L 3 (ps_ph T m i) _ di]
    refine ⟨w, xp_takenTo hm (ps_ms_lt _) ⟨w, nm_r (ps_nlU (B' := ps_ph T m (i + 1)) di ?_ ?_) (nm_r (nI_1 i) k)⟩⟩
    · refine (ps_or _ _).trans (congrArg nI (ps_ms_cg fun z hz => ?_))
      have q : (ps_ex 5 fun x => (ps_ms (T i)).testBit x && decide (z = ps_dg m x)) = (ps_tk m (ps_ms (T i))).testBit z := by unfold ps_tk; rw [ps_ms_tb _ z hz]
      rw [q]
      show (decide (z = ps_dg m i) || ps_ex i _ || _) = (decide (z = ps_dg m i) || (ps_ex i _ || (decide (ps_dg m i = ps_dg m i) && _)))
      rw [decide_eq_true (rfl : ps_dg m i = ps_dg m i), Bool.true_and, Bool.or_assoc]
    · intro x hx hne
      refine ps_ms_cg fun z hz => ?_
      show (decide (z = x) || ps_ex i _) = (decide (z = x) || (ps_ex i _ || (decide (x = ps_dg m i) && _)))
      rw [decide_eq_false hne, Bool.false_and, Bool.or_false]
theorem xp_push {post : Int32 → SX → Prop} {s t m : Nat} {T : Nat → Nat → Bool} (hs : s < 3) (ht : t < 3) (hm : m < 3125) (hT : ps_S L t T) (h : post (nI (ps_cn 32 (ps_OP (ps_wk (ps_ph T m 5) 5)))) (ps_nl (ps_nl L 3 (ps_wk (ps_ph T m 5) 5)) s (ps_wk (ps_ph T m 5) 5), im, re)) : wpX_push post (L, im, re) (nI s) (nI t) (nI m) := by
  unfold wpX_push
  dsimp only
  refine xp_sp1 hs (br_f zz_10 (xp_sp1 ht (br_f zz_10 (xp_mp1 hm (br_f zz_10 ?_)))))
  refine ps_lq (fun n c i => wX_push_29 post (nI s) (nI t) (nI m) n i c im re) (fun i => ps_pu L (5 * 3) i (fun x => nI (ps_ms (ps_ph T m 0 x)))) 5 (ps_pu0 _ _ _) (fun n => br_t (zz_le 5) (xp_push58 hs ht hm hT h)) (fun n i hi k => ?_)
  refine br_f (nI_ge (b := 5) hi (by decide)) ?_
  rw [ps_ix15, nI_clamp (by omega)]
  refine ⟨vp_in_nI (by omega) (by decide), nm_r (ps_puS L (5 * 3) i _ ((ps_rd1 hi).trans (congrArg nI (ps_ms_cg fun y hy => ?_)))) (nm_r (nI_1 i) k)⟩
  exact (Bool.or_false _).symm
theorem yp_push {post : Int32 → SY → Prop} {s t m : Nat} {p : Nat → Bool} (hs : s < 3) (ht : t < 3) (hm : m < 3125) (hF : F t = ps_fm p) (h : post (nI (ps_cn 32 (fun w => p (ps_cm m w)))) (upd F s (ps_fm (fun w => p (ps_cm m w))), ma, tr)) : wpY_push post (F, ma, tr) (nI s) (nI t) (nI m) := by
  unfold wpY_push
  dsimp only
  refine yp_good hs ht hm (br_t (by decide) ⟨vp_in_nI ht (by decide), ?_⟩)
  rw [nI_clamp (by omega), hF]
  exact yp_pushed hm (yp_take hs h)
end

/-! the owed rows of the makers -/
section
variable {k : Nat} {L im re F ma tr : Nat → Int32}
theorem i_vc_plain {k : Nat} {u : SX} {v : SY} (I : i_Rel k u v) (hk : k + 4 ≤ 2048) (v1 : Int32) : wpX_plain (fun r u' => wpY_plain (fun r' v' => r' = r ∧ i_Rel (k + 4) u' v') v v1) u v1 := by
  obtain ⟨L, im, re⟩ := u
  obtain ⟨F, ma, tr⟩ := v
  obtain ⟨R, hR⟩ := I
  have hR : ps_Rl L F R := hR
  rcases ps_cs 3 (by decide) v1 with b | ⟨s, hs, rfl⟩
  · unfold wpX_plain wpY_plain
    exact xp_sp0 b (br_t rfl (yp_sp0 b (br_t rfl ⟨rfl, R, hR⟩)))
  · exact xp_plain hs (yp_plain hs (ps_done hR ps_rp_Pre (fun _ _ => rfl)))
theorem i_vc_loose {k : Nat} {u : SX} {v : SY} (I : i_Rel k u v) (hk : k + 4 ≤ 2048) (v1 : Int32) : wpX_loose (fun r u' => wpY_loose (fun r' v' => r' = r ∧ i_Rel (k + 4) u' v') v v1) u v1 := by
  obtain ⟨L, im, re⟩ := u
  obtain ⟨F, ma, tr⟩ := v
  obtain ⟨R, hR⟩ := I
  have hR : ps_Rl L F R := hR
  rcases ps_cs 3 (by decide) v1 with b | ⟨s, hs, rfl⟩
  · unfold wpX_loose wpY_loose
    exact xp_sp0 b (br_t rfl (yp_sp0 b (br_t rfl ⟨rfl, R, hR⟩)))
  · exact xp_loose hs (yp_loose hs (ps_done hR ps_rd_Pre (fun _ _ => rfl)))
theorem i_vc_open {k : Nat} {u : SX} {v : SY} (I : i_Rel k u v) (hk : k + 4 ≤ 2048) (v1 : Int32) (v2 : Int32) : wpX_open (fun r u' => wpY_open (fun r' v' => r' = r ∧ i_Rel (k + 4) u' v') v v1 v2) u v1 v2 := by
  obtain ⟨L, im, re⟩ := u
  obtain ⟨F, ma, tr⟩ := v
  obtain ⟨R, hR⟩ := I
  have hR : ps_Rl L F R := hR
  rcases ps_cs 3 (by decide) v1 with b | ⟨s, hs, rfl⟩
  · unfold wpX_open wpY_open
    exact xp_sp0 b (br_t rfl (yp_sp0 b (br_t rfl ⟨rfl, R, hR⟩)))
  · rcases ps_cs 32 (by decide) v2 with b | ⟨S, hS, rfl⟩
    · unfold wpX_open wpY_open
      exact xp_sp1 hs (br_f zz_10 (xp_st0 b (br_t rfl (yp_sp1 hs (br_f zz_10 (yp_st0 b (br_t rfl ⟨rfl, R, hR⟩)))))))
    · exact xp_open hs hS (hR s hs).2.1 (yp_open hs hS (hR s hs).2.2 (ps_done hR (ps_ad_Pre (hR s hs).1 S) (ps_with_OP (hR s hs).1 hS)))
theorem i_vc_tie {k : Nat} {u : SX} {v : SY} (I : i_Rel k u v) (hk : k + 4 ≤ 2048) (v1 : Int32) (v2 : Int32) (v3 : Int32) : wpX_tie (fun r u' => wpY_tie (fun r' v' => r' = r ∧ i_Rel (k + 4) u' v') v v1 v2 v3) u v1 v2 v3 := by
  obtain ⟨L, im, re⟩ := u
  obtain ⟨F, ma, tr⟩ := v
  obtain ⟨R, hR⟩ := I
  have hR : ps_Rl L F R := hR
  rcases ps_cs 3 (by decide) v1 with b | ⟨s, hs, rfl⟩
  · unfold wpX_tie wpY_tie
    exact xp_sp0 b (br_t rfl (yp_sp0 b (br_t rfl ⟨rfl, R, hR⟩)))
  · rcases ps_cs 5 (by decide) v2 with b | ⟨a, ha, rfl⟩
    · unfold wpX_tie wpY_tie
      exact xp_sp1 hs (br_f zz_10 (xp_pt0 b (br_t rfl (yp_sp1 hs (br_f zz_10 (yp_pt0 b (br_t rfl ⟨rfl, R, hR⟩)))))))
    · rcases ps_cs 5 (by decide) v3 with b | ⟨c, hc, rfl⟩
      · unfold wpX_tie wpY_tie
        exact xp_sp1 hs (br_f zz_10 (xp_pt1 ha (br_f zz_10 (xp_pt0 b (br_t rfl (yp_sp1 hs (br_f zz_10 (yp_pt1 ha (br_f zz_10 (yp_pt0 b (br_t rfl ⟨rfl, R, hR⟩)))))))))))
      · exact xp_tie hs ha hc (hR s hs).2.1 (yp_tie hs ha hc (hR s hs).2.2 (ps_done hR (ps_ti_Pre (hR s hs).1 ha hc) (fun w _ => ps_tie_OP (hR s hs).1 ha hc w)))
theorem i_vc_turn {k : Nat} {u : SX} {v : SY} (I : i_Rel k u v) (hk : k + 4 ≤ 2048) (v1 : Int32) : wpX_turn (fun r u' => wpY_turn (fun r' v' => r' = r ∧ i_Rel (k + 4) u' v') v v1) u v1 := by
  obtain ⟨L, im, re⟩ := u
  obtain ⟨F, ma, tr⟩ := v
  obtain ⟨R, hR⟩ := I
  have hR : ps_Rl L F R := hR
  rcases ps_cs 3 (by decide) v1 with b | ⟨s, hs, rfl⟩
  · unfold wpX_turn wpY_turn
    exact xp_sp0 b (br_t rfl (yp_sp0 b (br_t rfl ⟨rfl, R, hR⟩)))
  · exact xp_turn hs (hR s hs).2.1 (yp_turn hs (hR s hs).2.2 (ps_done (ps_Rl_sp hR _) (ps_tn_Pre (hR s hs).1) ps_turn_OP))
theorem i_vc_copy {k : Nat} {u : SX} {v : SY} (I : i_Rel k u v) (hk : k + 4 ≤ 2048) (v1 : Int32) (v2 : Int32) : wpX_copy (fun r u' => wpY_copy (fun r' v' => r' = r ∧ i_Rel (k + 4) u' v') v v1 v2) u v1 v2 := by
  obtain ⟨L, im, re⟩ := u
  obtain ⟨F, ma, tr⟩ := v
  obtain ⟨R, hR⟩ := I
  have hR : ps_Rl L F R := hR
  rcases ps_cs 3 (by decide) v1 with b | ⟨s, hs, rfl⟩
  · unfold wpX_copy wpY_copy
    exact xp_sp0 b (br_t rfl (yp_sp0 b (br_t rfl ⟨rfl, R, hR⟩)))
  · rcases ps_cs 3 (by decide) v2 with b | ⟨t, ht, rfl⟩
    · unfold wpX_copy wpY_copy
      exact xp_sp1 hs (br_f zz_10 (xp_sp0 b (br_t rfl (yp_sp1 hs (br_f zz_10 (yp_sp0 b (br_t rfl ⟨rfl, R, hR⟩)))))))
    · exact xp_copy hs ht (hR t ht).2.1 (yp_copy hs ht (hR t ht).2.2 (ps_done hR (hR t ht).1 (fun _ _ => rfl)))
theorem i_vc_join {k : Nat} {u : SX} {v : SY} (I : i_Rel k u v) (hk : k + 4 ≤ 2048) (v1 : Int32) (v2 : Int32) : wpX_join (fun r u' => wpY_join (fun r' v' => r' = r ∧ i_Rel (k + 4) u' v') v v1 v2) u v1 v2 := by
  obtain ⟨L, im, re⟩ := u
  obtain ⟨F, ma, tr⟩ := v
  obtain ⟨R, hR⟩ := I
  have hR : ps_Rl L F R := hR
  rcases ps_cs 3 (by decide) v1 with b | ⟨s, hs, rfl⟩
  · unfold wpX_join wpY_join
    exact xp_sp0 b (br_t rfl (yp_sp0 b (br_t rfl ⟨rfl, R, hR⟩)))
  · rcases ps_cs 3 (by decide) v2 with b | ⟨t, ht, rfl⟩
    · unfold wpX_join wpY_join
      exact xp_sp1 hs (br_f zz_10 (xp_sp0 b (br_t rfl (yp_sp1 hs (br_f zz_10 (yp_sp0 b (br_t rfl ⟨rfl, R, hR⟩)))))))
    · exact xp_join hs ht (hR s hs).2.1 (hR t ht).2.1 (yp_join hs ht (hR s hs).2.2 (hR t ht).2.2 (ps_done hR (ps_jo_Pre (hR s hs).1 (hR t ht).1) (ps_join_OP (hR s hs).1 (hR t ht).1)))
theorem i_vc_meet {k : Nat} {u : SX} {v : SY} (I : i_Rel k u v) (hk : k + 4 ≤ 2048) (v1 : Int32) (v2 : Int32) : wpX_meet (fun r u' => wpY_meet (fun r' v' => r' = r ∧ i_Rel (k + 4) u' v') v v1 v2) u v1 v2 := by
  obtain ⟨L, im, re⟩ := u
  obtain ⟨F, ma, tr⟩ := v
  obtain ⟨R, hR⟩ := I
  have hR : ps_Rl L F R := hR
  rcases ps_cs 3 (by decide) v1 with b | ⟨s, hs, rfl⟩
  · unfold wpX_meet wpY_meet
    exact xp_sp0 b (br_t rfl (yp_sp0 b (br_t rfl ⟨rfl, R, hR⟩)))
  · rcases ps_cs 3 (by decide) v2 with b | ⟨t, ht, rfl⟩
    · unfold wpX_meet wpY_meet
      exact xp_sp1 hs (br_f zz_10 (xp_sp0 b (br_t rfl (yp_sp1 hs (br_f zz_10 (yp_sp0 b (br_t rfl ⟨rfl, R, hR⟩)))))))
    · exact xp_meet hs ht (hR s hs).2.1 (hR t ht).2.1 (yp_meet hs ht (hR s hs).2.2 (hR t ht).2.2 (ps_done (ps_Rl_sp hR _) (ps_wk_Pre (fun x hx => zz_or.mpr (Or.inl ((hR s hs).1.1 x hx)))) (fun w _ => (ps_un_OP w).symm.trans (ps_wk_OP w 5 (Nat.le_refl 5)).symm)))
theorem i_vc_pull {k : Nat} {u : SX} {v : SY} (I : i_Rel k u v) (hk : k + 4 ≤ 2048) (v1 : Int32) (v2 : Int32) (v3 : Int32) : wpX_pull (fun r u' => wpY_pull (fun r' v' => r' = r ∧ i_Rel (k + 4) u' v') v v1 v2 v3) u v1 v2 v3 := by
  obtain ⟨L, im, re⟩ := u
  obtain ⟨F, ma, tr⟩ := v
  obtain ⟨R, hR⟩ := I
  have hR : ps_Rl L F R := hR
  rcases ps_cs 3 (by decide) v1 with b | ⟨s, hs, rfl⟩
  · unfold wpX_pull wpY_pull
    exact xp_sp0 b (br_t rfl (yp_bad1 b (br_f (by decide) ⟨rfl, R, hR⟩)))
  · rcases ps_cs 3 (by decide) v2 with b | ⟨t, ht, rfl⟩
    · unfold wpX_pull wpY_pull
      exact xp_sp1 hs (br_f zz_10 (xp_sp0 b (br_t rfl (yp_bad2 hs b (br_f (by decide) ⟨rfl, R, hR⟩)))))
    · rcases ps_cs 3125 (by decide) v3 with b | ⟨m, hm, rfl⟩
      · unfold wpX_pull wpY_pull
        exact xp_sp1 hs (br_f zz_10 (xp_sp1 ht (br_f zz_10 (xp_mp0 b (br_t rfl (yp_bad3 hs ht b (br_f (by decide) ⟨rfl, R, hR⟩)))))))
      · exact xp_pull hs ht hm (hR t ht).2.1 (yp_pull hs ht hm (hR t ht).2.2 (ps_done (ps_Rl_sp hR _) (ps_pl_Pre (hR t ht).1 m) (ps_pull_OP (hR t ht).1 m)))
theorem i_vc_push {k : Nat} {u : SX} {v : SY} (I : i_Rel k u v) (hk : k + 4 ≤ 2048) (v1 : Int32) (v2 : Int32) (v3 : Int32) : wpX_push (fun r u' => wpY_push (fun r' v' => r' = r ∧ i_Rel (k + 4) u' v') v v1 v2 v3) u v1 v2 v3 := by
  obtain ⟨L, im, re⟩ := u
  obtain ⟨F, ma, tr⟩ := v
  obtain ⟨R, hR⟩ := I
  have hR : ps_Rl L F R := hR
  rcases ps_cs 3 (by decide) v1 with b | ⟨s, hs, rfl⟩
  · unfold wpX_push wpY_push
    exact xp_sp0 b (br_t rfl (yp_bad1 b (br_f (by decide) ⟨rfl, R, hR⟩)))
  · rcases ps_cs 3 (by decide) v2 with b | ⟨t, ht, rfl⟩
    · unfold wpX_push wpY_push
      exact xp_sp1 hs (br_f zz_10 (xp_sp0 b (br_t rfl (yp_bad2 hs b (br_f (by decide) ⟨rfl, R, hR⟩)))))
    · rcases ps_cs 3125 (by decide) v3 with b | ⟨m, hm, rfl⟩
      · unfold wpX_push wpY_push
        exact xp_sp1 hs (br_f zz_10 (xp_sp1 ht (br_f zz_10 (xp_mp0 b (br_t rfl (yp_bad3 hs ht b (br_f (by decide) ⟨rfl, R, hR⟩)))))))
      · exact xp_push hs ht hm (hR t ht).2.1 (yp_push hs ht hm (hR t ht).2.2 (ps_done (ps_Rl_sp hR _) (ps_wk_Pre (ps_ph_refl _ m 5)) (fun w _ => (ps_push_OP m w).symm.trans (ps_wk_OP w 5 (Nat.le_refl 5)).symm)))
end
end
section
/-! questions: opens, isOpen, openAt, inner, closure, around, dense, continuous -/
section
variable {L im re F ma tr : Nat → Int32}
theorem zz_01 {b : Bool} {post : Int32 → Prop} (h : post (zz_b b)) : (zz_b b = 0 → post 0) ∧ (¬ zz_b b = 0 → post 1) :=
  zz_br (fun e => by rw [e] at h; exact h) (fun e => by rw [e] at h; exact h)
theorem i_vc_opens {k : Nat} {u : SX} {v : SY} (I : i_Rel k u v) (hk : k + 4 ≤ 2048) (v1 : Int32) : wpX_opens (fun r => wpY_opens (fun r' => r' = r ∧ i_Rel (k + 4) u v) v v1) u v1 := by
  obtain ⟨L, im, re⟩ := u
  obtain ⟨F, ma, tr⟩ := v
  have I' : i_Rel (k + 4) (L, im, re) (F, ma, tr) := i_up I
  obtain ⟨R, hR⟩ := I
  have hR : ps_Rl L F R := hR
  rcases ps_cs 3 (by decide) v1 with b | ⟨s, hs, rfl⟩
  · unfold wpX_opens wpY_opens
    exact xp_sp0 b (br_t rfl (yp_sp0 b (br_t rfl ⟨rfl, I'⟩)))
  · unfold wpX_opens wpY_opens
    dsimp only
    refine xp_sp1 hs (br_f zz_10 (xp_count (by omega) (hR s hs).2.1 (yp_sp1 hs (br_f zz_10 ⟨vp_in_nI hs (by decide), ?_⟩))))
    rw [nI_clamp (by omega), (hR s hs).2.2]
    exact yp_count ⟨rfl, I'⟩
theorem xp_isOpen {post : Int32 → Prop} {s v : Nat} {R : Nat → Nat → Bool} (hs : s < 3) (hv : v < 32) (hL : ps_S L s R) (h : post (zz_b (ps_OP R v))) : wpX_isOpen post (L, im, re) (nI s) (nI v) := by
  unfold wpX_isOpen
  exact xp_sp1 hs (br_f zz_10 (xp_st1 hv (br_f zz_10 (xp_isOpenSet (by omega) hv hL (zz_01 h)))))
theorem yp_isOpen {post : Int32 → Prop} {s v : Nat} {p : Nat → Bool} (hs : s < 3) (hv : v < 32) (hF : F s = ps_fm p) (h : post (zz_b (p v))) : wpY_isOpen post (F, ma, tr) (nI s) (nI v) := by
  unfold wpY_isOpen
  refine yp_sp1 hs (br_f zz_10 (yp_st1 hv (br_f zz_10 ⟨vp_in_nI hs (by decide), ?_⟩)))
  rw [nI_clamp (by omega), hF]
  exact yp_in hv (zz_01 h)
theorem i_vc_isOpen {k : Nat} {u : SX} {v : SY} (I : i_Rel k u v) (hk : k + 4 ≤ 2048) (v1 : Int32) (v2 : Int32) : wpX_isOpen (fun r => wpY_isOpen (fun r' => r' = r ∧ i_Rel (k + 4) u v) v v1 v2) u v1 v2 := by
  obtain ⟨L, im, re⟩ := u
  obtain ⟨F, ma, tr⟩ := v
  have I' : i_Rel (k + 4) (L, im, re) (F, ma, tr) := i_up I
  obtain ⟨R, hR⟩ := I
  have hR : ps_Rl L F R := hR
  rcases ps_cs 3 (by decide) v1 with b | ⟨s, hs, rfl⟩
  · unfold wpX_isOpen wpY_isOpen
    exact xp_sp0 b (br_t rfl (yp_sp0 b (br_t rfl ⟨rfl, I'⟩)))
  · rcases ps_cs 32 (by decide) v2 with b | ⟨S, hS, rfl⟩
    · unfold wpX_isOpen wpY_isOpen
      exact xp_sp1 hs (br_f zz_10 (xp_st0 b (br_t rfl (yp_sp1 hs (br_f zz_10 (yp_st0 b (br_t rfl ⟨rfl, I'⟩)))))))
    · exact xp_isOpen hs hS (hR s hs).2.1 (yp_isOpen hs hS (hR s hs).2.2 ⟨rfl, I'⟩)
theorem ps_openAt {R : Nat → Nat → Bool} {s : Nat} (hs : s < 3) (hL : ps_S L s R) (hF : F s = ps_fm (ps_OP R)) (w : Int32) : ∀ d v c, v + d = 32 → ∃ r : Int32, (∀ post : Int32 → Prop, post r → wX_openAt_14 post (nI s) w L im re (d + 1) (nI c) (nI v)) ∧ (∀ post : Int32 → Prop, post r → wY_openAt_15 post (nI s) F ma tr (d + 1) (w - nI c) (nI v)) := by
  intro d
  induction d with
  | zero =>
    intro v c hv
    have e : v = 32 := hv
    subst e
    exact ⟨-3, fun post h => br_t (zz_le 32) h, fun post h => br_t (zz_le 32) h⟩
  | succ d ih =>
    intro v c hv
    have hv' : v < 32 := by omega
    have g := nI_ge (b := 32) hv' (by decide)
    have iv : vp_in (nI s) 3 := vp_in_nI hs (by decide)
    have cl : F (nI s).toNatClampNeg = ps_fm (ps_OP R) := by rw [nI_clamp (by omega), hF]
    cases o : ps_OP R v with
    | false =>
      obtain ⟨r, hX, hY⟩ := ih (v + 1) c (by omega)
      refine ⟨r, fun post h => br_f g (xp_isOpenSet (by omega) hv' hL (zz_br (fun _ => nm_r (nI_1 v) (hX post h)) (fun e => by rw [o] at e; exact absurd e (by decide)))), fun post h => br_f g ⟨iv, ?_⟩⟩
      rw [cl]
      exact yp_in hv' (zz_br (fun _ => nm_r (nI_1 v) (hY post h)) (fun e => by rw [o] at e; exact absurd e (by decide)))
    | true =>
      by_cases q : nI c = w
      · have q2 : w - nI c = 0 := by rw [q]; exact Int32.sub_self w
        refine ⟨nI v, fun post h => br_f g (xp_isOpenSet (by omega) hv' hL (zz_br (fun e => by rw [o] at e; exact absurd e (by decide)) (fun _ => br_t q h))), fun post h => br_f g ⟨iv, ?_⟩⟩
        rw [cl]
        exact yp_in hv' (zz_br (fun e => by rw [o] at e; exact absurd e (by decide)) (fun _ => br_t q2 h))
      · obtain ⟨r, hX, hY⟩ := ih (v + 1) (c + 1) (by omega)
        have q2 : ¬ w - nI c = 0 := fun z => q (by grind)
        have q3 : w - nI c + (-1) = w - nI (c + 1) := by rw [← nI_1]; grind
        refine ⟨r, fun post h => br_f g (xp_isOpenSet (by omega) hv' hL (zz_br (fun e => by rw [o] at e; exact absurd e (by decide)) (fun _ => br_f q (nm_r (nI_1 c) (nm_r (nI_1 v) (hX post h)))))), fun post h => br_f g ⟨iv, ?_⟩⟩
        rw [cl]
        exact yp_in hv' (zz_br (fun e => by rw [o] at e; exact absurd e (by decide)) (fun _ => br_f q2 (nm_r q3 (nm_r (nI_1 v) (hY post h)))))
theorem i_vc_openAt {k : Nat} {u : SX} {v : SY} (I : i_Rel k u v) (hk : k + 4 ≤ 2048) (v1 : Int32) (v2 : Int32) : wpX_openAt (fun r => wpY_openAt (fun r' => r' = r ∧ i_Rel (k + 4) u v) v v1 v2) u v1 v2 := by
  obtain ⟨L, im, re⟩ := u
  obtain ⟨F, ma, tr⟩ := v
  have I' : i_Rel (k + 4) (L, im, re) (F, ma, tr) := i_up I
  obtain ⟨R, hR⟩ := I
  have hR : ps_Rl L F R := hR
  rcases ps_cs 3 (by decide) v1 with b | ⟨s, hs, rfl⟩
  · unfold wpX_openAt wpY_openAt
    exact xp_sp0 b (br_t rfl (yp_sp0 b (br_t rfl ⟨rfl, I'⟩)))
  · obtain ⟨r, hX, hY⟩ := ps_openAt (im := im) (re := re) (ma := ma) (tr := tr) hs (hR s hs).2.1 (hR s hs).2.2 v2 32 0 0 rfl
    have z : v2 - nI 0 = v2 := by rw [nI_0]; exact Int32.sub_zero v2
    rw [z] at hY
    unfold wpX_openAt wpY_openAt
    exact xp_sp1 hs (br_f zz_10 ⟨_, hX _ (yp_sp1 hs (br_f zz_10 ⟨_, hY _ ⟨rfl, I'⟩⟩))⟩)
theorem i_vc_inner {k : Nat} {u : SX} {v : SY} (I : i_Rel k u v) (hk : k + 4 ≤ 2048) (v1 : Int32) (v2 : Int32) : wpX_inner (fun r => wpY_inner (fun r' => r' = r ∧ i_Rel (k + 4) u v) v v1 v2) u v1 v2 := by
  obtain ⟨L, im, re⟩ := u
  obtain ⟨F, ma, tr⟩ := v
  have I' : i_Rel (k + 4) (L, im, re) (F, ma, tr) := i_up I
  obtain ⟨R, hR⟩ := I
  have hR : ps_Rl L F R := hR
  rcases ps_cs 3 (by decide) v1 with b | ⟨s, hs, rfl⟩
  · unfold wpX_inner wpY_inner
    exact xp_sp0 b (br_t rfl (yp_sp0 b (br_t rfl ⟨rfl, I'⟩)))
  · rcases ps_cs 32 (by decide) v2 with b | ⟨S, hS, rfl⟩
    · unfold wpX_inner wpY_inner
      exact xp_sp1 hs (br_f zz_10 (xp_st0 b (br_t rfl (yp_sp1 hs (br_f zz_10 (yp_st0 b (br_t rfl ⟨rfl, I'⟩)))))))
    · unfold wpX_inner wpY_inner
      dsimp only
      refine xp_sp1 hs (br_f zz_10 (xp_st1 hS (br_f zz_10 (xp_innerOf (by omega) hS (hR s hs).2.1 (yp_sp1 hs (br_f zz_10 (yp_st1 hS (br_f zz_10 ⟨vp_in_nI hs (by decide), ?_⟩))))))))
      rw [nI_clamp (by omega), (hR s hs).2.2]
      exact yp_innerPart hS ⟨congrArg nI (ps_yi_OP (hR s hs).1), I'⟩
theorem i_vc_closure {k : Nat} {u : SX} {v : SY} (I : i_Rel k u v) (hk : k + 4 ≤ 2048) (v1 : Int32) (v2 : Int32) : wpX_closure (fun r => wpY_closure (fun r' => r' = r ∧ i_Rel (k + 4) u v) v v1 v2) u v1 v2 := by
  obtain ⟨L, im, re⟩ := u
  obtain ⟨F, ma, tr⟩ := v
  have I' : i_Rel (k + 4) (L, im, re) (F, ma, tr) := i_up I
  obtain ⟨R, hR⟩ := I
  have hR : ps_Rl L F R := hR
  rcases ps_cs 3 (by decide) v1 with b | ⟨s, hs, rfl⟩
  · unfold wpX_closure wpY_closure
    exact xp_sp0 b (br_t rfl (yp_sp0 b (br_t rfl ⟨rfl, I'⟩)))
  · rcases ps_cs 32 (by decide) v2 with b | ⟨S, hS, rfl⟩
    · unfold wpX_closure wpY_closure
      exact xp_sp1 hs (br_f zz_10 (xp_st0 b (br_t rfl (yp_sp1 hs (br_f zz_10 (yp_st0 b (br_t rfl ⟨rfl, I'⟩)))))))
    · unfold wpX_closure wpY_closure
      dsimp only
      refine xp_sp1 hs (br_f zz_10 (xp_st1 hS (br_f zz_10 (xp_closureOf (by omega) hS (hR s hs).2.1 (yp_sp1 hs (br_f zz_10 (yp_st1 hS (br_f zz_10 ⟨vp_in_nI hs (by decide), ?_⟩))))))))
      rw [nI_clamp (by omega), (hR s hs).2.2]
      exact yp_closureOf hS ⟨congrArg nI (ps_yc_OP (hR s hs).1 hS), I'⟩
theorem i_vc_around {k : Nat} {u : SX} {v : SY} (I : i_Rel k u v) (hk : k + 4 ≤ 2048) (v1 : Int32) (v2 : Int32) : wpX_around (fun r => wpY_around (fun r' => r' = r ∧ i_Rel (k + 4) u v) v v1 v2) u v1 v2 := by
  obtain ⟨L, im, re⟩ := u
  obtain ⟨F, ma, tr⟩ := v
  have I' : i_Rel (k + 4) (L, im, re) (F, ma, tr) := i_up I
  obtain ⟨R, hR⟩ := I
  have hR : ps_Rl L F R := hR
  rcases ps_cs 3 (by decide) v1 with b | ⟨s, hs, rfl⟩
  · unfold wpX_around wpY_around
    exact xp_sp0 b (br_t rfl (yp_sp0 b (br_t rfl ⟨rfl, I'⟩)))
  · rcases ps_cs 5 (by decide) v2 with b | ⟨x, hx, rfl⟩
    · unfold wpX_around wpY_around
      exact xp_sp1 hs (br_f zz_10 (xp_pt0 b (br_t rfl (yp_sp1 hs (br_f zz_10 (yp_pt0 b (br_t rfl ⟨rfl, I'⟩)))))))
    · unfold wpX_around wpY_around
      dsimp only
      refine xp_sp1 hs (br_f zz_10 (xp_pt1 hx (br_f zz_10 (xp_ab (by omega) hx ((hR s hs).2.1 x hx) (yp_sp1 hs (br_f zz_10 (yp_pt1 hx (br_f zz_10 ⟨vp_in_nI hs (by decide), ?_⟩))))))))
      rw [nI_clamp (by omega), (hR s hs).2.2]
      exact yp_leastWith hx ⟨congrArg nI (ps_lw_OP (hR s hs).1 hx), I'⟩
theorem ps_eqN {a b : Nat} {A B : Prop} (ha : a < 2 ^ 31) (hb : b < 2 ^ 31) (f : decide (a = b) = true → A) (g : decide (a = b) = false → B) : (nI a = nI b → A) ∧ (¬ nI a = nI b → B) := by
  rw [nI_eq ha hb]
  exact ⟨fun e => f (decide_eq_true e), fun e => g (decide_eq_false e)⟩
theorem xp_dense {post : Int32 → Prop} {s : Nat} {R : Nat → Nat → Bool} (hs : s < 3) (hL : ps_S L s R) (h : post (nI (ps_cn 32 (fun v => decide (ps_cl R v = 31))))) : wpX_dense post (L, im, re) (nI s) := by
  unfold wpX_dense
  dsimp only
  refine xp_sp1 hs (br_f zz_10 ?_)
  refine ps_lq (fun n a i => wX_dense_13 post (nI s) L im re n a i) (fun i => nI (ps_cn i (fun v => decide (ps_cl R v = 31)))) 32 rfl (fun n => br_t (zz_le 32) h) (fun n i hi k => ?_)
  have lt : ps_cl R i < 32 := ps_ms_lt _
  refine br_f (nI_ge (b := 32) hi (by decide)) (xp_closureOf (by omega) hi hL (ps_eqN (b := 31) (by omega) (by decide) (fun e => ?_) (fun e => ?_)))
  · exact nm_r ((nI_1 _).trans (congrArg nI (ps_cnt (P := fun v => decide (ps_cl R v = 31)) e).symm)) (nm_r (nI_1 i) k)
  · exact nm_r ((ps_a0 _).trans (congrArg nI (ps_cnf (P := fun v => decide (ps_cl R v = 31)) e).symm)) (nm_r (nI_1 i) k)
theorem yp_dense {post : Int32 → Prop} {s : Nat} {p : Nat → Bool} (hs : s < 3) (hF : F s = ps_fm p) (h : post (nI (ps_cn 32 (fun v => decide (ps_yc p v = 31))))) : wpY_dense post (F, ma, tr) (nI s) := by
  unfold wpY_dense
  dsimp only
  refine yp_sp1 hs (br_f zz_10 ?_)
  refine ps_lq (fun n a i => wY_dense_14 post (nI s) F ma tr n a i) (fun i => nI (ps_cn i (fun v => decide (ps_yc p v = 31)))) 32 rfl (fun n => br_t (zz_le 32) h) (fun n i hi k => ?_)
  have lt : ps_yc p i < 32 := ps_yc_lt p i
  refine br_f (nI_ge (b := 32) hi (by decide)) ⟨vp_in_nI hs (by decide), ?_⟩
  rw [nI_clamp (by omega), hF]
  refine yp_closureOf hi (ps_eqN (b := 31) (by omega) (by decide) (fun e => ?_) (fun e => nm_r (nI_1 i) ?_))
  · exact nm_r ((nI_1 _).trans (congrArg nI (ps_cnt (P := fun v => decide (ps_yc p v = 31)) e).symm)) (nm_r (nI_1 i) k)
  · rw [ps_cnf (P := fun v => decide (ps_yc p v = 31)) e] at k
    exact k
theorem i_vc_dense {k : Nat} {u : SX} {v : SY} (I : i_Rel k u v) (hk : k + 4 ≤ 2048) (v1 : Int32) : wpX_dense (fun r => wpY_dense (fun r' => r' = r ∧ i_Rel (k + 4) u v) v v1) u v1 := by
  obtain ⟨L, im, re⟩ := u
  obtain ⟨F, ma, tr⟩ := v
  have I' : i_Rel (k + 4) (L, im, re) (F, ma, tr) := i_up I
  obtain ⟨R, hR⟩ := I
  have hR : ps_Rl L F R := hR
  rcases ps_cs 3 (by decide) v1 with b | ⟨s, hs, rfl⟩
  · unfold wpX_dense wpY_dense
    exact xp_sp0 b (br_t rfl (yp_sp0 b (br_t rfl ⟨rfl, I'⟩)))
  · refine xp_dense hs (hR s hs).2.1 (yp_dense hs (hR s hs).2.2 ⟨congrArg nI (ps_cn_cg fun i hi => ?_), I'⟩)
    rw [ps_yc_OP (hR s hs).1 hi]
theorem xp_continuous {post : Int32 → Prop} {s t m : Nat} {R T : Nat → Nat → Bool} (hs : s < 3) (ht : t < 3) (hm : m < 3125) (hL : ps_S L s R) (hT : ps_S L t T) (h : post (zz_b (ps_xc R T m))) : wpX_continuous post (L, im, re) (nI s) (nI t) (nI m) := by
  unfold wpX_continuous
  dsimp only
  refine xp_sp1 hs (br_f zz_10 (xp_sp1 ht (br_f zz_10 (xp_mp1 hm (br_f zz_10 ?_)))))
  refine ps_lex (fun n x => wX_continuous_29 post (nI s) (nI t) (nI m) L im re n x) post (fun x => ps_sb (ps_tk m (ps_ms (R x))) (ps_ms (T (ps_dg m x)))) 5 (fun hp n => br_t (zz_le 5) hp) (fun n i hi h1 h0 => ?_) h
  refine br_f (nI_ge (b := 5) hi (by decide)) (xp_imageOf hm hi (xp_ab (by omega) hi (hL i hi) (xp_takenTo hm (ps_ms_lt _) (xp_ab (by omega) (ps_dg_lt m i) (hT _ (ps_dg_lt m i)) ?_))))
  have q := ps_sb_k _ (ps_tk_lt m (ps_ms (R i))) _ (ps_ms_lt (T (ps_dg m i)))
  cases z : ps_sb (ps_tk m (ps_ms (R i))) (ps_ms (T (ps_dg m i))) with
  | true => exact br_t (q.mpr z) (nm_r (nI_1 i) (h1 z))
  | false => exact br_f (fun w => by rw [q.mp w] at z; exact absurd z (by decide)) (h0 z)
theorem i_vc_continuous {k : Nat} {u : SX} {v : SY} (I : i_Rel k u v) (hk : k + 4 ≤ 2048) (v1 : Int32) (v2 : Int32) (v3 : Int32) : wpX_continuous (fun r => wpY_continuous (fun r' => r' = r ∧ i_Rel (k + 4) u v) v v1 v2 v3) u v1 v2 v3 := by
  obtain ⟨L, im, re⟩ := u
  obtain ⟨F, ma, tr⟩ := v
  have I' : i_Rel (k + 4) (L, im, re) (F, ma, tr) := i_up I
  obtain ⟨R, hR⟩ := I
  have hR : ps_Rl L F R := hR
  rcases ps_cs 3 (by decide) v1 with b | ⟨s, hs, rfl⟩
  · unfold wpX_continuous wpY_continuous
    exact xp_sp0 b (br_t rfl (yp_bad1 b (br_f (by decide) ⟨rfl, I'⟩)))
  · rcases ps_cs 3 (by decide) v2 with b | ⟨t, ht, rfl⟩
    · unfold wpX_continuous wpY_continuous
      exact xp_sp1 hs (br_f zz_10 (xp_sp0 b (br_t rfl (yp_bad2 hs b (br_f (by decide) ⟨rfl, I'⟩)))))
    · rcases ps_cs 3125 (by decide) v3 with b | ⟨m, hm, rfl⟩
      · unfold wpX_continuous wpY_continuous
        exact xp_sp1 hs (br_f zz_10 (xp_sp1 ht (br_f zz_10 (xp_mp0 b (br_t rfl (yp_bad3 hs ht b (br_f (by decide) ⟨rfl, I'⟩)))))))
      · refine xp_continuous hs ht hm (hR s hs).2.1 (hR t ht).2.1 ?_
        unfold wpY_continuous
        refine yp_good hs ht hm (br_t (by decide) (yp_isContinuous hs ht hm (hR s hs).2.2 (hR t ht).2.2 (zz_01 (post := fun r => r = zz_b (ps_xc (R s) (R t) m) ∧ i_Rel (k + 4) (L, im, re) (F, ma, tr)) ?_)))
        exact ⟨congrArg zz_b (ps_ct_xc (hR t ht).1 m), I'⟩
end
end
section
/-! piece and kind -/
def ps_gw (R : Nat → Nat → Bool) (a : Nat) : Nat → Nat
  | 0 => a
  | i + 1 => if (ps_gw R a i).testBit i then ps_gw R a i ||| ps_ms (R i) else ps_gw R a i
def ps_sg (R : Nat → Nat → Bool) (a : Nat) : Nat := a ||| ps_gw R (ps_cl R a) 5
def ps_pg (R : Nat → Nat → Bool) (x : Nat) : Nat → Nat
  | 0 => 2 ^ x
  | j + 1 => ps_sg R (ps_pg R x j)
theorem ps_gwT {R : Nat → Nat → Bool} {a i : Nat} (h : (ps_gw R a i).testBit i = true) : ps_gw R a (i + 1) = ps_gw R a i ||| ps_ms (R i) := by
  show (if (ps_gw R a i).testBit i then ps_gw R a i ||| ps_ms (R i) else ps_gw R a i) = _
  rw [if_pos h]
theorem ps_gwF {R : Nat → Nat → Bool} {a i : Nat} (h : (ps_gw R a i).testBit i = false) : ps_gw R a (i + 1) = ps_gw R a i := by
  show (if (ps_gw R a i).testBit i then ps_gw R a i ||| ps_ms (R i) else ps_gw R a i) = _
  rw [if_neg (zz_ft h)]
theorem ps_gw_lt {R : Nat → Nat → Bool} {a : Nat} (ha : a < 32) : ∀ i, ps_gw R a i < 32 := by
  intro i
  induction i with
  | zero => exact ha
  | succ i ih =>
    cases h : (ps_gw R a i).testBit i with
    | true => rw [ps_gwT h]; exact ps_or_lt _ ih _ (ps_ms_lt _)
    | false => rw [ps_gwF h]; exact ih
theorem ps_sg_lt {R : Nat → Nat → Bool} {a : Nat} (ha : a < 32) : ps_sg R a < 32 := ps_or_lt _ ha _ (ps_gw_lt (ps_ms_lt _) 5)
theorem ps_pg_lt {R : Nat → Nat → Bool} {x : Nat} (hx : x < 5) : ∀ j, ps_pg R x j < 32 := by
  intro j
  induction j with
  | zero => exact ps_2lt x hx
  | succ j ih => exact ps_sg_lt ih
theorem ps_gw_keep {R : Nat → Nat → Bool} {a z i : Nat} (h : (ps_gw R a i).testBit z = true) : (ps_gw R a (i + 1)).testBit z = true := by
  cases c : (ps_gw R a i).testBit i with
  | true => rw [ps_gwT c, Nat.testBit_or, h]; rfl
  | false => rw [ps_gwF c]; exact h
theorem ps_gw_ge {R : Nat → Nat → Bool} {a z : Nat} (h : a.testBit z = true) : ∀ i, (ps_gw R a i).testBit z = true := by
  intro i
  induction i with
  | zero => exact h
  | succ i ih => exact ps_gw_keep ih
theorem ps_gw_up {R : Nat → Nat → Bool} {a y z : Nat} (hz : z < 5) (h : a.testBit y = true) (r : R y z = true) : ∀ i, y < i → (ps_gw R a i).testBit z = true := by
  intro i
  induction i with
  | zero => intro q; exact absurd q (Nat.not_lt_zero y)
  | succ i ih =>
    intro q
    by_cases e : y < i
    · exact ps_gw_keep (ih e)
    · have e : y = i := by omega
      subst e
      rw [ps_gwT (ps_gw_ge h y), Nat.testBit_or, ps_ms_tb _ z hz, r, Bool.or_true]
theorem ps_gw_in {R : Nat → Nat → Bool} {a v : Nat} (o : ps_OP R v = true) (h : ∀ y, y < 5 → a.testBit y = true → v.testBit y = true) : ∀ i, i ≤ 5 → ∀ z, z < 5 → (ps_gw R a i).testBit z = true → v.testBit z = true := by
  intro i
  induction i with
  | zero => intro _; exact h
  | succ i ih =>
    intro hi z hz b
    cases c : (ps_gw R a i).testBit i with
    | true =>
      rw [ps_gwT c, Nat.testBit_or, zz_or, ps_ms_tb _ z hz] at b
      rcases b with b | b
      · exact ih (by omega) z hz b
      · exact ps_OP_iff.mp o i (by omega) (ih (by omega) i (by omega) c) z hz b
    | false =>
      rw [ps_gwF c] at b
      exact ih (by omega) z hz b
def ps_bo (R : Nat → Nat → Bool) (w : Nat) : Bool := ps_OP R w && ps_OP R (31 - w)
theorem ps_cl_in {R : Nat → Nat → Bool} {a v : Nat} (hv : v < 32) (o : ps_bo R v = true) (h : ∀ y, y < 5 → a.testBit y = true → v.testBit y = true) : ∀ y, y < 5 → (ps_cl R a).testBit y = true → v.testBit y = true := by
  intro y hy b
  obtain ⟨w, hw, r, c⟩ := (ps_cl_tb hy).mp b
  apply Classical.byContradiction
  intro g
  have k := ps_OP_iff.mp (zz_and.mp o).2 y hy (by rw [ps_co v hv y hy, zz_not]; exact g) w hw r
  rw [ps_co v hv w hw, zz_not] at k
  exact k (h w hw c)
theorem ps_sg_in {R : Nat → Nat → Bool} {a v : Nat} (hv : v < 32) (o : ps_bo R v = true) (h : ∀ y, y < 5 → a.testBit y = true → v.testBit y = true) : ∀ y, y < 5 → (ps_sg R a).testBit y = true → v.testBit y = true := by
  intro y hy b
  unfold ps_sg at b
  rw [Nat.testBit_or, zz_or] at b
  rcases b with b | b
  · exact h y hy b
  · exact ps_gw_in (zz_and.mp o).1 (ps_cl_in hv o h) 5 (Nat.le_refl 5) y hy b
theorem ps_pg_in {R : Nat → Nat → Bool} {x v : Nat} (hx : x < 5) (hv : v < 32) (o : ps_bo R v = true) (b : v.testBit x = true) : ∀ j y, y < 5 → (ps_pg R x j).testBit y = true → v.testBit y = true := by
  intro j
  induction j with
  | zero =>
    intro y hy c
    have c : (2 ^ x).testBit y = true := c
    rw [ps_2x x hx y hy, decide_eq_true_eq] at c
    rw [c]; exact b
  | succ j ih => exact ps_sg_in hv o ih
theorem ps_sg_ge {R : Nat → Nat → Bool} {a y : Nat} (h : a.testBit y = true) : (ps_sg R a).testBit y = true := by
  unfold ps_sg
  rw [Nat.testBit_or, h]; rfl
theorem ps_pg_x {R : Nat → Nat → Bool} {x : Nat} (hx : x < 5) : ∀ j, (ps_pg R x j).testBit x = true := by
  intro j
  induction j with
  | zero =>
    show (2 ^ x).testBit x = true
    rw [ps_2x x hx x hx]; exact decide_eq_true rfl
  | succ j ih => exact ps_sg_ge ih
def ps_po (v : Nat) : Nat := ps_cn 5 (fun i => v.testBit i)
theorem ps_po_k : ∀ a, a < 32 → ∀ b, b < 32 → ps_sb a b = true → a ≠ b → ps_po a < ps_po b := by decide +kernel
theorem ps_po_1 : ∀ x, x < 5 → ps_po (2 ^ x) = 1 := by decide +kernel
theorem ps_pg_st {R : Nat → Nat → Bool} {x : Nat} (hx : x < 5) : ∀ j, ps_sg R (ps_pg R x j) = ps_pg R x j ∨ j + 1 ≤ ps_po (ps_pg R x j) := by
  intro j
  induction j with
  | zero => exact Or.inr (Nat.le_of_eq (ps_po_1 x hx).symm)
  | succ j ih =>
    by_cases e : ps_sg R (ps_pg R x j) = ps_pg R x j
    · left
      show ps_sg R (ps_sg R (ps_pg R x j)) = ps_sg R (ps_pg R x j)
      rw [e, e]
    · right
      rcases ih with ih | ih
      · exact absurd ih e
      · have k := ps_po_k _ (ps_pg_lt (R := R) hx j) _ (ps_sg_lt (R := R) (ps_pg_lt (R := R) hx j)) (ps_sb_iff.mpr (fun i _ b => ps_sg_ge b)) (fun q => e q.symm)
        show j + 1 + 1 ≤ ps_po (ps_sg R (ps_pg R x j))
        omega
theorem ps_pg_fix {R : Nat → Nat → Bool} {x : Nat} (hx : x < 5) : ps_sg R (ps_pg R x 5) = ps_pg R x 5 := by
  rcases ps_pg_st (R := R) hx 5 with h | h
  · exact h
  · have k : ps_po (ps_pg R x 5) ≤ 5 := ps_cn_le _ 5
    omega
theorem ps_fix_bo {R : Nat → Nat → Bool} (hR : ps_Pre R) {a : Nat} (ha : a < 32) (e : ps_sg R a = a) : ps_bo R a = true := by
  have C : ∀ y, y < 5 → (ps_cl R a).testBit y = true → a.testBit y = true := fun y hy b => by
    rw [← e]
    unfold ps_sg
    rw [Nat.testBit_or, ps_gw_ge b 5, Bool.or_true]
  have G : ∀ y, y < 5 → a.testBit y = true → (ps_cl R a).testBit y = true := fun y hy b => (ps_cl_tb hy).mpr ⟨y, hy, hR.1 y hy, b⟩
  refine zz_and.mpr ⟨ps_OP_iff.mpr (fun x hx b y hy r => ?_), ps_OP_iff.mpr (fun x hx b y hy r => ?_)⟩
  · rw [← e]
    unfold ps_sg
    rw [Nat.testBit_or, ps_gw_up hy (G x hx b) r 5 hx, Bool.or_true]
  · rw [ps_co a ha x hx, zz_not] at b
    rw [ps_co a ha y hy, zz_not]
    intro c
    exact b (C x hx ((ps_cl_tb hx).mpr ⟨y, hy, r, c⟩))
theorem ps_piece {R : Nat → Nat → Bool} (hR : ps_Pre R) {x : Nat} (hx : x < 5) : ps_lw (ps_bo R) x = ps_pg R x 5 := by
  unfold ps_lw
  refine ps_tb (ps_ms_lt _) (ps_pg_lt hx 5) (fun y hy => zz_bq ?_)
  rw [ps_ms_tb _ y hy, ps_al_iff]
  constructor
  · intro h
    exact zz_imp.mp (h _ (ps_pg_lt hx 5)) (zz_and.mpr ⟨ps_fix_bo hR (ps_pg_lt hx 5) (ps_pg_fix hx), ps_pg_x hx 5⟩)
  · intro h v hv
    exact zz_imp.mpr (fun c => ps_pg_in hx hv (zz_and.mp c).1 (zz_and.mp c).2 5 y hy h)
section
variable {L im re F ma tr : Nat → Int32}
theorem xp_po24 {post : Int32 → Prop} {J : Int32 → Int32 → Prop} {s a c j : Nat} {R : Nat → Nat → Bool} (hs : s < 4) (ha : a < 32) (hc : c < 32) (hL : ps_S L s R) (h : J (nI (c ||| ps_gw R a 5)) (nI (j + 1))) : ∃ n, wX_pieceOf_24 post J (nI s) (nI c) (nI j) L im re n (nI a) 0 := by
  refine ps_lq (fun n b i => wX_pieceOf_24 post J (nI s) (nI c) (nI j) L im re n b i) (fun i => nI (ps_gw R a i)) 5 rfl (fun n => br_t (zz_le 5) (nm_r (ps_or_k c hc _ (ps_gw_lt ha 5)) (nm_r (nI_1 j) h))) (fun n i hi k => ?_)
  refine br_f (nI_ge (b := 5) hi (by decide)) (xp_in (ps_gw_lt ha i) hi (zz_br (fun e => ?_) (fun e => xp_ab hs hi (hL i hi) ?_)))
  · exact nm_r ((ps_o0 _).trans (congrArg nI (ps_gwF e).symm)) (nm_r (nI_1 i) k)
  · exact nm_r ((ps_or_k _ (ps_gw_lt ha i) _ (ps_ms_lt _)).trans (congrArg nI (ps_gwT e).symm)) (nm_r (nI_1 i) k)
theorem xp_pieceOf {post : Int32 → Prop} {s x : Nat} {R : Nat → Nat → Bool} (hs : s < 4) (hx : x < 5) (hL : ps_S L s R) (h : post (nI (ps_pg R x 5))) : wpX_pieceOf post (L, im, re) (nI s) (nI x) := by
  unfold wpX_pieceOf
  refine nm_r (ps_1x x hx) ?_
  refine ps_lq (fun n b i => wX_pieceOf_7 post (nI s) L im re n b i) (fun i => nI (ps_pg R x i)) 5 rfl (fun n => br_t (zz_le 5) h) (fun n i hi k => ?_)
  exact br_f (nI_ge (b := 5) hi (by decide)) (xp_closureOf hs (ps_pg_lt hx i) hL (xp_po24 hs (ps_ms_lt _) (ps_pg_lt hx i) hL k))
theorem i_vc_piece {k : Nat} {u : SX} {v : SY} (I : i_Rel k u v) (hk : k + 4 ≤ 2048) (v1 : Int32) (v2 : Int32) : wpX_piece (fun r => wpY_piece (fun r' => r' = r ∧ i_Rel (k + 4) u v) v v1 v2) u v1 v2 := by
  obtain ⟨L, im, re⟩ := u
  obtain ⟨F, ma, tr⟩ := v
  have I' : i_Rel (k + 4) (L, im, re) (F, ma, tr) := i_up I
  obtain ⟨R, hR⟩ := I
  have hR : ps_Rl L F R := hR
  rcases ps_cs 3 (by decide) v1 with b | ⟨s, hs, rfl⟩
  · unfold wpX_piece wpY_piece
    exact xp_sp0 b (br_t rfl (yp_sp0 b (br_t rfl ⟨rfl, I'⟩)))
  · rcases ps_cs 5 (by decide) v2 with b | ⟨x, hx, rfl⟩
    · unfold wpX_piece wpY_piece
      exact xp_sp1 hs (br_f zz_10 (xp_pt0 b (br_t rfl (yp_sp1 hs (br_f zz_10 (yp_pt0 b (br_t rfl ⟨rfl, I'⟩)))))))
    · unfold wpX_piece wpY_piece
      exact xp_sp1 hs (br_f zz_10 (xp_pt1 hx (br_f zz_10 (xp_pieceOf (by omega) hx (hR s hs).2.1 (yp_sp1 hs (br_f zz_10 (yp_pt1 hx (br_f zz_10 (yp_both hs (hR s hs).2.2 (yp_leastWith hx ⟨congrArg nI (ps_piece (hR s hs).1 hx), I'⟩))))))))))
/-! kind -/
def ps_kd (a b c d : Bool) : Int32 := (((if a then 1 else 0) + (if b then 2 else 0)) + (if c then 4 else 0)) + (if d then 8 else 0)
def ps_ks (R : Nat → Nat → Bool) (i : Nat) : Bool := ps_al i (fun x => decide (ps_cl R (2 ^ x) = 2 ^ x))
def ps_ke (R : Nat → Nat → Bool) (i : Nat) : Bool := ps_al i (fun x => decide (ps_cl R (2 ^ x) = ps_ms (R x)))
def ps_ka (R : Nat → Nat → Bool) (i : Nat) : Bool := ps_al i (fun x => ps_al x (fun y => !(R x y && R y x)))
theorem xp_k82 {post : Int32 → Prop} {J : Int32 → Int32 → Int32 → Int32 → Prop} {s x : Nat} {z3 z4 : Int32} {a : Bool} {R : Nat → Nat → Bool} (hs : s < 4) (hx : x < 5) (hL : ps_S L s R) (h : J (zz_b (a && ps_al x (fun y => !(R x y && R y x)))) z3 z4 (nI (x + 1))) : ∃ n, wX_kind_82 post J (nI s) z3 z4 (nI x) L im re n (zz_b a) 0 := by
  refine ps_lq (fun n b i => wX_kind_82 post J (nI s) z3 z4 (nI x) L im re n b i) (fun i => zz_b (a && ps_al i (fun y => !(R x y && R y x)))) x (congrArg zz_b (Bool.and_true a)) (fun n => br_t (zz_le x) (nm_r (nI_1 x) h)) (fun n i hi k => ?_)
  have S : (a && ps_al (i + 1) (fun y => !(R x y && R y x))) = ((a && ps_al i (fun y => !(R x y && R y x))) && !(R x i && R i x)) := (Bool.and_assoc _ _ _).symm
  have N : ((a && ps_al i (fun y => !(R x y && R y x))) && !(R x i && R i x)) = false → ∀ y : Int32, y = nI i + 1 → wX_kind_82 post J (nI s) z3 z4 (nI x) L im re n 0 y := fun z => by
    refine nm_r (nI_1 i) ?_
    rw [S, z] at k
    exact k
  have T : ((a && ps_al i (fun y => !(R x y && R y x))) && !(R x i && R i x)) = true → ∀ y : Int32, y = nI i + 1 → wX_kind_82 post J (nI s) z3 z4 (nI x) L im re n 1 y := fun z => by
    refine nm_r (nI_1 i) ?_
    rw [S, z] at k
    exact k
  refine br_f (nI_ge hi (by omega)) (zz_br (fun z => N (by rw [z]; rfl)) (fun z => ?_))
  exact xp_lies hs hx (by omega) (hL x hx) (zz_br (fun e => T (by rw [z, e]; rfl)) (fun e => xp_lies hs (by omega) hx (hL i (by omega)) (zz_br (fun e1 => T (by rw [z, e, e1]; rfl)) (fun e1 => N (by rw [z, e, e1]; rfl)))))
theorem xp_k54 {post : Int32 → Prop} {J : Int32 → Int32 → Int32 → Int32 → Prop} {s x : Nat} {z0 : Int32} {a e : Bool} {R : Nat → Nat → Bool} (hs : s < 4) (hx : x < 5) (hL : ps_S L s R) (h : J (zz_b (a && ps_al x (fun y => !(R x y && R y x)))) z0 (zz_b (e && decide (ps_cl R (2 ^ x) = ps_ms (R x)))) (nI (x + 1))) : wX_kind_54 post J (nI s) (zz_b a) (zz_b e) (nI x) (nI (ps_cl R (2 ^ x))) z0 L im re := by
  have l1 : ps_cl R (2 ^ x) < 32 := ps_ms_lt _
  have l2 := ps_ms_lt (R x)
  refine zz_br (fun z => xp_k82 hs hx hL ?_) (fun z => xp_ab hs hx (hL x hx) (ps_eqN (by omega) (by omega) (fun d => xp_k82 hs hx hL ?_) (fun d => xp_k82 hs hx hL ?_)))
  · rw [z, Bool.false_and] at h; exact h
  · rw [z, d] at h; exact h
  · rw [z, d] at h; exact h
theorem xp_kf {post : Int32 → Prop} {a b d : Bool} {r : Nat} (hr : r < 32) (h : post (ps_kd a b (decide (r = 31)) d)) : (zz_b a = 0 → wX_kind_152 post (zz_b b) (zz_b d) (nI r) 0 L im re) ∧ (¬ zz_b a = 0 → wX_kind_152 post (zz_b b) (zz_b d) (nI r) 1 L im re) := by
  refine zz_br (fun ea => zz_br (fun eb => ps_eqN (b := 31) (by omega) (by decide) (fun ec => zz_br (fun ed => ?_) (fun ed => ?_)) (fun ec => zz_br (fun ed => ?_) (fun ed => ?_))) (fun eb => ps_eqN (b := 31) (by omega) (by decide) (fun ec => zz_br (fun ed => ?_) (fun ed => ?_)) (fun ec => zz_br (fun ed => ?_) (fun ed => ?_)))) (fun ea => zz_br (fun eb => ps_eqN (b := 31) (by omega) (by decide) (fun ec => zz_br (fun ed => ?_) (fun ed => ?_)) (fun ec => zz_br (fun ed => ?_) (fun ed => ?_))) (fun eb => ps_eqN (b := 31) (by omega) (by decide) (fun ec => zz_br (fun ed => ?_) (fun ed => ?_)) (fun ec => zz_br (fun ed => ?_) (fun ed => ?_))))
  all_goals
    rw [ea, eb, ec, ed] at h
    exact h
theorem xp_kind {post : Int32 → Prop} {s : Nat} {R : Nat → Nat → Bool} (hs : s < 3) (hL : ps_S L s R) (h : post (ps_kd (ps_ka R 5) (ps_ks R 5) (decide (ps_pg R 0 5 = 31)) (ps_ke R 5))) : wpX_kind post (L, im, re) (nI s) := by
  unfold wpX_kind
  refine xp_sp1 hs (br_f zz_10 ?_)
  refine ps_lq (fun n (b : Int32 × Int32 × Int32) i => wX_kind_19 post (nI s) L im re n b.1 b.2.1 b.2.2 i) (fun i => (zz_b (ps_ka R i), zz_b (ps_ks R i), zz_b (ps_ke R i))) 5 (a0 := (1, 1, 1)) rfl (fun n => br_t (zz_le 5) (xp_pieceOf (x := 0) (by omega) (by omega) hL (xp_kf (ps_pg_lt (by omega) 5) h))) (fun n i hi k => ?_)
  have l1 : ps_cl R (2 ^ i) < 32 := ps_ms_lt _
  have l2 := ps_2lt i hi
  refine br_f (nI_ge (b := 5) hi (by decide)) ?_
  rw [ps_1x i hi]
  refine xp_closureOf (by omega) l2 hL (zz_br (fun z => xp_k54 (by omega) hi hL ?_) (fun z => ps_eqN (by omega) (by omega) (fun d => xp_k54 (by omega) hi hL ?_) (fun d => xp_k54 (by omega) hi hL ?_)))
  · have q : ps_ks R (i + 1) = false := by
      show (ps_ks R i && _) = false
      rw [z]; rfl
    dsimp only at k
    rw [q] at k
    exact k
  · have q : ps_ks R (i + 1) = true := by
      show (ps_ks R i && decide (ps_cl R (2 ^ i) = 2 ^ i)) = true
      rw [z, d]; rfl
    dsimp only at k
    rw [q] at k
    exact k
  · have q : ps_ks R (i + 1) = false := by
      show (ps_ks R i && decide (ps_cl R (2 ^ i) = 2 ^ i)) = false
      rw [z, d]; rfl
    dsimp only at k
    rw [q] at k
    exact k
end
end
section
/-! kind, and chains -/
theorem ps_cs_iff {R : Nat → Nat → Bool} (hR : ps_Pre R) {x y : Nat} (hx : x < 5) (hy : y < 5) : ps_sb (ps_cl R (2 ^ x)) (ps_cl R (2 ^ y)) = true ↔ R x y = true := by
  rw [ps_cl1 hx, ps_cl1 hy, ps_sb_iff]
  constructor
  · intro h
    have k := h x hx (by rw [ps_ms_tb _ x hx]; exact hR.1 x hx)
    rw [ps_ms_tb _ x hx] at k
    exact k
  · intro r z hz b
    rw [ps_ms_tb _ z hz] at b ⊢
    exact hR.2 z x y hz hx hy b r
theorem ps_ce_iff {R : Nat → Nat → Bool} (hR : ps_Pre R) {x y : Nat} (hx : x < 5) (hy : y < 5) : ps_cl R (2 ^ x) = ps_cl R (2 ^ y) ↔ (R x y = true ∧ R y x = true) := by
  rw [← ps_cs_iff hR hx hy, ← ps_cs_iff hR hy hx]
  constructor
  · intro e
    rw [e]
    exact ⟨ps_sb_iff.mpr (fun _ _ b => b), ps_sb_iff.mpr (fun _ _ b => b)⟩
  · intro h
    exact ps_tb (ps_ms_lt _) (ps_ms_lt _) (fun i hi => zz_bq ⟨ps_sb_iff.mp h.1 i hi, ps_sb_iff.mp h.2 i hi⟩)
def ps_ya (p : Nat → Bool) (i : Nat) : Bool := ps_al i (fun q => decide (q / 5 = q % 5) || !decide (ps_yc p (2 ^ (q / 5)) = ps_yc p (2 ^ (q % 5))))
def ps_yk (p : Nat → Bool) (i : Nat) : Bool := ps_al i (fun q => decide (ps_yc p (2 ^ (q / 5)) = 2 ^ (q / 5)))
theorem ps_kA {R : Nat → Nat → Bool} (hR : ps_Pre R) : ps_ya (ps_OP R) 25 = ps_ka R 5 := by
  apply zz_bq
  unfold ps_ya ps_ka
  rw [ps_al_iff, ps_al_iff]
  constructor
  · intro h x hx
    rw [ps_al_iff]
    intro y hy
    rw [zz_not, zz_and]
    intro c
    have k := h (5 * x + y) (by omega)
    have d1 : (5 * x + y) / 5 = x := by omega
    have d2 : (5 * x + y) % 5 = y := by omega
    rw [d1, d2, ps_yc_OP hR (ps_2lt x hx), ps_yc_OP hR (ps_2lt y (by omega)), decide_eq_false (show ¬ x = y by omega), Bool.false_or, zz_not, decide_eq_true_eq, ps_ce_iff hR hx (by omega)] at k
    exact k c
  · intro h q hq
    have e1 : q / 5 < 5 := by omega
    have e2 : q % 5 < 5 := by omega
    rw [zz_or, zz_not, decide_eq_true_eq, decide_eq_true_eq, ps_yc_OP hR (ps_2lt _ e1), ps_yc_OP hR (ps_2lt _ e2), ps_ce_iff hR e1 e2]
    generalize q / 5 = x at e1 ⊢
    generalize q % 5 = y at e2 ⊢
    by_cases e : x = y
    · exact Or.inl e
    · right
      intro c
      rcases Nat.lt_or_ge y x with l | l
      · have k := ps_al_iff.mp (h x e1) y l
        rw [zz_not, zz_and] at k
        exact k c
      · have k := ps_al_iff.mp (h y e2) x (by omega)
        rw [zz_not, zz_and] at k
        exact k ⟨c.2, c.1⟩
theorem ps_kS {R : Nat → Nat → Bool} (hR : ps_Pre R) : ps_yk (ps_OP R) 25 = ps_ks R 5 := by
  apply zz_bq
  unfold ps_yk ps_ks
  rw [ps_al_iff, ps_al_iff]
  constructor
  · intro h x hx
    have k := h (5 * x) (by omega)
    have d1 : (5 * x) / 5 = x := by omega
    rw [d1, ps_yc_OP hR (ps_2lt x hx)] at k
    exact k
  · intro h q hq
    have e1 : q / 5 < 5 := by omega
    rw [ps_yc_OP hR (ps_2lt _ e1)]
    exact h _ e1
theorem ps_rp_OP : ∀ w, w < 32 → ps_OP ps_rp w = (decide (w = 0) || decide (w = 31)) := by decide +kernel
theorem ps_fm_iff {p q : Nat → Bool} : ps_fm p = ps_fm q ↔ ∀ i, i < 32 → p i = q i := ⟨ps_fm_inj, ps_fm_cg⟩
theorem ps_kC {R : Nat → Nat → Bool} (hR : ps_Pre R) : decide (ps_fm (ps_bo R) = -2147483647) = decide (ps_pg R 0 5 = 31) := by
  apply zz_bq
  rw [decide_eq_true_eq, decide_eq_true_eq, ps_plain, ps_fm_iff]
  have lt := ps_pg_lt (R := R) (show 0 < 5 by omega) 5
  constructor
  · intro h
    have k := h _ lt
    rw [ps_fix_bo hR lt (ps_pg_fix (by omega)), ps_rp_OP _ lt] at k
    have k := k.symm
    rw [zz_or, decide_eq_true_eq, decide_eq_true_eq] at k
    rcases k with k | k
    · have b := ps_pg_x (R := R) (show 0 < 5 by omega) 5
      rw [k, ps_00] at b
      exact absurd b (by decide)
    · exact k
  · intro e w hw
    rw [ps_rp_OP w hw]
    apply zz_bq
    rw [zz_or, decide_eq_true_eq, decide_eq_true_eq]
    have A : ∀ v, v < 32 → ps_bo R v = true → v.testBit 0 = true → v = 31 := fun v hv o b => ps_tb hv (by omega) (fun i hi => by
      rw [ps_31 i hi]
      exact ps_pg_in (show 0 < 5 by omega) hv o b 5 i hi (by rw [e]; exact ps_31 i hi))
    constructor
    · intro o
      cases b : w.testBit 0 with
      | true => exact Or.inr (A w hw o b)
      | false =>
        left
        have o' : ps_bo R (31 - w) = true := by
          have o := zz_and.mp o
          refine zz_and.mpr ⟨o.2, ?_⟩
          rw [show 31 - (31 - w) = w by omega]
          exact o.1
        have k := A (31 - w) (by omega) o' (by rw [ps_co w hw 0 (by omega), b]; rfl)
        omega
    · rintro (k | k)
      · rw [k]; exact zz_and.mpr ⟨ps_0 R, ps_all R⟩
      · rw [k]; exact zz_and.mpr ⟨ps_all R, ps_0 R⟩
theorem ps_kE {R : Nat → Nat → Bool} (hR : ps_Pre R) : decide (ps_fm (ps_bo R) = ps_fm (ps_OP R)) = ps_ke R 5 := by
  apply zz_bq
  unfold ps_ke
  rw [decide_eq_true_eq, ps_fm_iff, ps_al_iff]
  constructor
  · intro h
    have S : ∀ x y, x < 5 → y < 5 → R x y = true → R y x = true := fun x y hx hy r => by
      have o := ps_up hR hy
      have k := h _ (ps_ms_lt (R y))
      rw [o] at k
      have k := (zz_and.mp k).2
      rw [ps_turn_OP _ (ps_ms_lt _), ps_OP_iff] at k
      have k := k y hy (by rw [ps_ms_tb _ y hy]; exact hR.1 y hy) x hx r
      rw [ps_ms_tb _ x hx] at k
      exact k
    intro x hx
    rw [decide_eq_true_eq, ps_cl1 hx]
    exact ps_ms_cg (fun y hy => zz_bq ⟨S y x hy hx, S x y hx hy⟩)
  · intro h w hw
    have S : ∀ x, x < 5 → ∀ y, y < 5 → ps_tn R x y = R x y := fun x hx => by
      have k := h x hx
      rw [decide_eq_true_eq, ps_cl1 hx] at k
      exact ps_ms_inj k
    unfold ps_bo
    rw [ps_turn_OP w hw, ps_OP_cg S w, Bool.and_self]
section
variable {L im re F ma tr : Nat → Int32}
theorem yp_k69 {post : Int32 → Prop} {J : Int32 → Int32 → Int32 → Prop} {s x i : Nat} {z0 : Int32} {c : Bool} {p : Nat → Bool} (hs : s < 3) (hx : x < 5) (hF : F s = ps_fm p) (h : J z0 (zz_b (c && decide (ps_yc p (2 ^ x) = 2 ^ x))) (nI (i + 1))) : wY_kind_69 post J (nI s) (zz_b c) (nI i) (nI x) z0 F ma tr := by
  have l1 := ps_yc_lt p (2 ^ x)
  have l2 := ps_2lt x hx
  unfold wY_kind_69
  rw [ps_1x x hx]
  refine zz_br (fun z => nm_r (nI_1 i) ?_) (fun z => yp_pointClosure hs hx hF (ps_eqN (by omega) (by omega) (fun d => nm_r (nI_1 i) ?_) (fun d => nm_r (nI_1 i) ?_)))
  · rw [z, Bool.false_and] at h; exact h
  · rw [z, d] at h; exact h
  · rw [z, d] at h; exact h
theorem ps_eqB {a b : Int32} {A B : Prop} (f : decide (a = b) = true → A) (g : decide (a = b) = false → B) : (a = b → A) ∧ (¬ a = b → B) :=
  ⟨fun e => f (decide_eq_true e), fun e => g (decide_eq_false e)⟩
theorem yp_k145 {post : Int32 → Prop} {s : Nat} {z0 : Int32} {p : Nat → Bool} (hs : s < 3) (hF : F s = ps_fm p) (h1 : decide (ps_fm (fun w => p w && p (31 - w)) = ps_fm p) = true → post (z0 + 8)) (h0 : decide (ps_fm (fun w => p w && p (31 - w)) = ps_fm p) = false → post z0) : wY_kind_145 post (nI s) z0 F ma tr := by
  unfold wY_kind_145
  refine yp_both hs hF ⟨vp_in_nI hs (by decide), ?_⟩
  rw [nI_clamp (by omega), hF]
  exact ps_eqB h1 h0
theorem yp_k124 {post : Int32 → Prop} {s : Nat} {z0 : Int32} {p : Nat → Bool} (hs : s < 3) (hF : F s = ps_fm p) (h1 : decide (ps_fm (fun w => p w && p (31 - w)) = -2147483647) = true → wY_kind_145 post (nI s) (z0 + 4) F ma tr) (h0 : decide (ps_fm (fun w => p w && p (31 - w)) = -2147483647) = false → wY_kind_145 post (nI s) z0 F ma tr) : wY_kind_124 post (nI s) z0 F ma tr := by
  unfold wY_kind_124
  exact yp_both hs hF (ps_eqB h1 h0)
theorem yp_kf {post : Int32 → Prop} {s : Nat} {a b : Bool} {p : Nat → Bool} (hs : s < 3) (hF : F s = ps_fm p) (h : post (ps_kd a b (decide (ps_fm (fun w => p w && p (31 - w)) = -2147483647)) (decide (ps_fm (fun w => p w && p (31 - w)) = ps_fm p)))) : (zz_b a = 0 → wY_kind_109 post (nI s) (zz_b b) 0 F ma tr) ∧ (¬ zz_b a = 0 → wY_kind_109 post (nI s) (zz_b b) 1 F ma tr) := by
  refine zz_br (fun ea => zz_br (fun eb => yp_k124 hs hF (fun ec => yp_k145 hs hF (fun ed => ?_) (fun ed => ?_)) (fun ec => yp_k145 hs hF (fun ed => ?_) (fun ed => ?_))) (fun eb => yp_k124 hs hF (fun ec => yp_k145 hs hF (fun ed => ?_) (fun ed => ?_)) (fun ec => yp_k145 hs hF (fun ed => ?_) (fun ed => ?_)))) (fun ea => zz_br (fun eb => yp_k124 hs hF (fun ec => yp_k145 hs hF (fun ed => ?_) (fun ed => ?_)) (fun ec => yp_k145 hs hF (fun ed => ?_) (fun ed => ?_))) (fun eb => yp_k124 hs hF (fun ec => yp_k145 hs hF (fun ed => ?_) (fun ed => ?_)) (fun ec => yp_k145 hs hF (fun ed => ?_) (fun ed => ?_))))
  all_goals
    rw [ea, eb, ec, ed] at h
    exact zz_v (P := post) (by decide) h
theorem yp_kind {post : Int32 → Prop} {s : Nat} {p : Nat → Bool} (hs : s < 3) (hF : F s = ps_fm p) (h : post (ps_kd (ps_ya p 25) (ps_yk p 25) (decide (ps_fm (fun w => p w && p (31 - w)) = -2147483647)) (decide (ps_fm (fun w => p w && p (31 - w)) = ps_fm p)))) : wpY_kind post (F, ma, tr) (nI s) := by
  unfold wpY_kind
  refine yp_sp1 hs (br_f zz_10 ?_)
  refine ps_lq (fun n (b : Int32 × Int32) i => wY_kind_17 post (nI s) F ma tr n b.1 b.2 i) (fun i => (zz_b (ps_ya p i), zz_b (ps_yk p i))) 25 (a0 := (1, 1)) rfl (fun n => br_t (zz_le 25) (yp_kf hs hF h)) (fun n i hi k => ?_)
  have d1 : i / 5 < 5 := by omega
  have d2 : i % 5 < 5 := by omega
  have e1 : nI i / 5 = nI (i / 5) := pk_div (d := 5) (by omega) (by decide) (by decide)
  have e2 : nI i - nI i / 5 * 5 = nI (i % 5) := pk_rem (d := 5) (by omega) (by decide) (by decide)
  have l1 := ps_yc_lt p (2 ^ (i / 5))
  have l2 := ps_yc_lt p (2 ^ (i % 5))
  have N : ps_ya p (i + 1) = false → wY_kind_68 post (wY_kind_17 post (nI s) F ma tr n) (nI s) (zz_b (ps_yk p i)) (nI i) (nI (i / 5)) F ma tr := fun z => by
    unfold wY_kind_68
    refine yp_k69 hs d1 hF ?_
    dsimp only at k
    rw [z] at k
    exact k
  have T : ps_ya p (i + 1) = true → wY_kind_64 post (wY_kind_17 post (nI s) F ma tr n) (nI s) (zz_b (ps_yk p i)) (nI i) (nI (i / 5)) F ma tr := fun z => by
    unfold wY_kind_64
    refine yp_k69 hs d1 hF ?_
    dsimp only at k
    rw [z] at k
    exact k
  have S : ps_ya p (i + 1) = (ps_ya p i && (decide (i / 5 = i % 5) || !decide (ps_yc p (2 ^ (i / 5)) = ps_yc p (2 ^ (i % 5))))) := rfl
  refine br_f (nI_ge (b := 25) hi (by decide)) ⟨by decide, nm_r e1 ⟨by decide, nm_r e2 (zz_br (fun z => N (by rw [S, z]; rfl)) (fun z => ps_eqN (by omega) (by omega) (fun c => T (by rw [S, z, c]; rfl)) (fun c => yp_pointClosure hs d1 hF (yp_pointClosure hs d2 hF (ps_eqN (by omega) (by omega) (fun e => N (by rw [S, z, c, e]; rfl)) (fun e => T (by rw [S, z, c, e]; rfl)))))))⟩⟩
theorem i_vc_kind {k : Nat} {u : SX} {v : SY} (I : i_Rel k u v) (hk : k + 4 ≤ 2048) (v1 : Int32) : wpX_kind (fun r => wpY_kind (fun r' => r' = r ∧ i_Rel (k + 4) u v) v v1) u v1 := by
  obtain ⟨L, im, re⟩ := u
  obtain ⟨F, ma, tr⟩ := v
  have I' : i_Rel (k + 4) (L, im, re) (F, ma, tr) := i_up I
  obtain ⟨R, hR⟩ := I
  have hR : ps_Rl L F R := hR
  rcases ps_cs 3 (by decide) v1 with b | ⟨s, hs, rfl⟩
  · unfold wpX_kind wpY_kind
    exact xp_sp0 b (br_t rfl (yp_sp0 b (br_t rfl ⟨rfl, I'⟩)))
  · refine xp_kind hs (hR s hs).2.1 (yp_kind hs (hR s hs).2.2 ⟨?_, I'⟩)
    have hP := (hR s hs).1
    rw [ps_kA hP, ps_kS hP, ← ps_kC hP, ← ps_kE hP]
    rfl
/-! chains -/
def ps_on (x0 : Int32) : Nat → Int32
  | 0 => 0
  | i + 1 => ps_on x0 i + ((x0 >>> (nI i &&& 31)) &&& 1)
theorem xp_ones {post : Int32 → Prop} {x0 : Int32} (h : post (ps_on x0 5)) : wpX_ones post x0 := by
  unfold wpX_ones
  exact ps_lq (fun n a i => wX_ones_4 post x0 n a i) (fun i => ps_on x0 i) 5 rfl (fun n => br_t (zz_le 5) h) (fun n i hi k => br_f (nI_ge (b := 5) hi (by decide)) (nm_e (nm_r (nI_1 i) k)))
theorem yp_size {post : Int32 → Prop} {x0 : Int32} (h : post (ps_on x0 5)) : wpY_size post (F, ma, tr) x0 := by
  unfold wpY_size
  exact ps_lq (fun n a i => wY_size_4 post x0 F ma tr n a i) (fun i => ps_on x0 i) 5 rfl (fun n => br_t (zz_le 5) h) (fun n i hi k => br_f (nI_ge (b := 5) hi (by decide)) (nm_e (nm_r (nI_1 i) k)))
theorem ps_lqs {α : Type} (W : Nat → α → Int32 → Prop) (g : Nat → α) (e i0 : Nat) (hi : i0 ≤ e) {a0 : α} (e0 : g i0 = a0) (h0 : ∀ n, W (n + 1) (g e) (nI e)) (hs : ∀ n i, i < e → W n (g (i + 1)) (nI (i + 1)) → W (n + 1) (g i) (nI i)) : ∃ n, W n a0 (nI i0) := by
  rw [← e0]
  have H : ∀ d i, i + d = e → W (d + 1) (g i) (nI i) := by
    intro d
    induction d with
    | zero =>
      intro i hi
      have k : i = e := hi
      rw [k]; exact h0 0
    | succ d ih => intro i hi; exact hs _ i (by omega) (ih (i + 1) (by omega))
  exact ⟨e - i0 + 1, H (e - i0) i0 (by omega)⟩
def ps_xh (R : Nat → Nat → Bool) (v : Nat) : Bool := ps_al 5 (fun x => ps_al x (fun y => !(v.testBit x && v.testBit y) || (R x y != R y x)))
def ps_yh (p : Nat → Bool) (v : Nat) : Bool := ps_al 25 (fun q => decide (q % 5 ≤ q / 5) || (!(v.testBit (q / 5) && v.testBit (q % 5)) || (!decide (ps_yc p (2 ^ (q / 5)) = ps_yc p (2 ^ (q % 5))) && (ps_sb (ps_yc p (2 ^ (q / 5))) (ps_yc p (2 ^ (q % 5))) || ps_sb (ps_yc p (2 ^ (q % 5))) (ps_yc p (2 ^ (q / 5)))))))
theorem zz_ne {a b : Bool} : (a != b) = true ↔ ¬ (a = true ↔ b = true) := by cases a <;> cases b <;> simp
theorem ps_chain {R : Nat → Nat → Bool} (hR : ps_Pre R) (v : Nat) : ps_yh (ps_OP R) v = ps_xh R v := by
  apply zz_bq
  unfold ps_yh ps_xh
  rw [ps_al_iff, ps_al_iff]
  constructor
  · intro h x hx
    rw [ps_al_iff]
    intro y hy
    rw [zz_imp, zz_and, zz_ne]
    intro c d
    have hy' : y < 5 := by omega
    have k := h (5 * y + x) (by omega)
    have d1 : (5 * y + x) / 5 = y := by omega
    have d2 : (5 * y + x) % 5 = x := by omega
    rw [d1, d2, ps_yc_OP hR (ps_2lt x hx), ps_yc_OP hR (ps_2lt y hy'), zz_or, zz_imp, zz_and, zz_and, zz_not, zz_or, decide_eq_true_eq, decide_eq_true_eq, ps_ce_iff hR hy' hx, ps_cs_iff hR hx hy', ps_cs_iff hR hy' hx] at k
    rcases k with k | k
    · omega
    · have k := k ⟨c.2, c.1⟩
      rcases k.2 with j | j
      · exact k.1 ⟨j, d.mpr j⟩
      · exact k.1 ⟨d.mp j, j⟩
  · intro h q hq
    have e1 : q / 5 < 5 := by omega
    have e2 : q % 5 < 5 := by omega
    rw [ps_yc_OP hR (ps_2lt _ e1), ps_yc_OP hR (ps_2lt _ e2), zz_or, zz_imp, zz_and, zz_and, zz_not, zz_or, decide_eq_true_eq, decide_eq_true_eq, ps_ce_iff hR e1 e2, ps_cs_iff hR e1 e2, ps_cs_iff hR e2 e1]
    generalize q / 5 = x at e1 ⊢
    generalize q % 5 = y at e2 ⊢
    by_cases l : y ≤ x
    · exact Or.inl l
    · right
      intro c
      have k := ps_al_iff.mp (h y e2) x (by omega)
      rw [zz_imp, zz_and, zz_ne] at k
      have k := k ⟨c.2, c.1⟩
      cases p : R x y <;> cases q : R y x <;> simp_all
theorem zz_inj {a b : Bool} {A B : Prop} (f : (a != b) = false → A) (g : (a != b) = true → B) : (zz_b a = zz_b b → A) ∧ (¬ zz_b a = zz_b b → B) := by
  cases a <;> cases b
  · exact br_t rfl (f rfl)
  · exact br_f (by decide) (g rfl)
  · exact br_f (by decide) (g rfl)
  · exact br_t rfl (f rfl)
theorem xp_ic10 {post : Int32 → Prop} {J : Int32 → Prop} {s v x : Nat} {R : Nat → Nat → Bool} (hs : s < 4) (hx : x < 5) (hv : v < 32) (hL : ps_S L s R) (h1 : ps_al x (fun y => !(v.testBit x && v.testBit y) || (R x y != R y x)) = true → J (nI (x + 1))) (h0 : ps_al x (fun y => !(v.testBit x && v.testBit y) || (R x y != R y x)) = false → post 0) : ∃ n, wX_isChain_10 post J (nI s) (nI v) (nI x) L im re n 0 := by
  refine ps_lex (fun n y => wX_isChain_10 post J (nI s) (nI v) (nI x) L im re n y) (fun r => (r = 1 → J (nI (x + 1))) ∧ (¬ r = 1 → post 0)) (fun y => !(v.testBit x && v.testBit y) || (R x y != R y x)) x (fun hp n => br_t (zz_le x) (nm_r (nI_1 x) (hp.1 rfl))) (fun n i hi ht hf => ?_) ?_
  · refine br_f (nI_ge hi (by omega)) (xp_in hv hx (zz_br (fun e => nm_r (nI_1 i) (ht (by simp [e]))) (fun e => ?_)))
    refine xp_in hv (show i < 5 by omega) (zz_br (fun e1 => nm_r (nI_1 i) (ht (by simp [e1]))) (fun e1 => ?_))
    refine xp_lies hs hx (by omega) (hL x hx) (xp_lies hs (by omega) hx (hL i (by omega)) (zz_inj (fun d => ?_) (fun d => nm_r (nI_1 i) (ht (by rw [d]; exact Bool.or_true _)))))
    exact (hf (by rw [e, e1, d]; rfl)).2 (by decide)
  · skip
    cases z : ps_al x (fun y => !(v.testBit x && v.testBit y) || (R x y != R y x)) with
    | true => exact br_t rfl (h1 z)
    | false => exact br_f (by decide) (h0 z)
theorem xp_isChain {post : Int32 → Prop} {s v : Nat} {R : Nat → Nat → Bool} (hs : s < 4) (hv : v < 32) (hL : ps_S L s R) (h : post (zz_b (ps_xh R v))) : wpX_isChain post (L, im, re) (nI s) (nI v) := by
  unfold wpX_isChain
  exact ps_lex (fun n x => wX_isChain_2 post (nI s) (nI v) L im re n x) post (fun x => ps_al x (fun y => !(v.testBit x && v.testBit y) || (R x y != R y x))) 5 (fun hp n => br_t (zz_le 5) hp) (fun n i hi ht hf => br_f (nI_ge (b := 5) hi (by decide)) (xp_ic10 hs hi hv hL ht hf)) h
theorem yp_isChain {post : Int32 → Prop} {s v : Nat} {p : Nat → Bool} (hs : s < 3) (hv : v < 32) (hF : F s = ps_fm p) (h : post (zz_b (ps_yh p v))) : wpY_isChain post (F, ma, tr) (nI s) (nI v) := by
  unfold wpY_isChain
  refine ps_lex (fun n x => wY_isChain_2 post (nI s) (nI v) F ma tr n x) post (fun q => decide (q % 5 ≤ q / 5) || (!(v.testBit (q / 5) && v.testBit (q % 5)) || (!decide (ps_yc p (2 ^ (q / 5)) = ps_yc p (2 ^ (q % 5))) && (ps_sb (ps_yc p (2 ^ (q / 5))) (ps_yc p (2 ^ (q % 5))) || ps_sb (ps_yc p (2 ^ (q % 5))) (ps_yc p (2 ^ (q / 5))))))) 25 (fun hp n => br_t (zz_le 25) hp) (fun n i hi ht hf => ?_) h
  have d1 : i / 5 < 5 := by omega
  have d2 : i % 5 < 5 := by omega
  have e1 : nI i / 5 = nI (i / 5) := pk_div (d := 5) (by omega) (by decide) (by decide)
  have e2 : nI i - nI i / 5 * 5 = nI (i % 5) := pk_rem (d := 5) (by omega) (by decide) (by decide)
  have l1 := ps_yc_lt p (2 ^ (i / 5))
  have l2 := ps_yc_lt p (2 ^ (i % 5))
  refine br_f (nI_ge (b := 25) hi (by decide)) ⟨by decide, nm_r e1 ⟨by decide, nm_r e2 ?_⟩⟩
  by_cases c : i % 5 ≤ i / 5
  · exact br_t (nI_le c (by omega)) (nm_r (nI_1 i) (ht (by simp [c])))
  · refine br_f (nI_ge (by omega) (by omega)) (yp_has hv d1 (zz_br (fun b1 => nm_r (nI_1 i) (ht (by simp [b1]))) (fun b1 => yp_has hv d2 (zz_br (fun b2 => nm_r (nI_1 i) (ht (by simp [b2]))) (fun b2 => yp_pointClosure hs d1 hF (yp_pointClosure hs d2 hF (ps_eqN (by omega) (by omega) (fun e => hf ?_) (fun e => ?_))))))))
    · rw [decide_eq_false c, b1, b2, e]; rfl
    · have q1 := ps_sb_k _ l1 _ l2
      have q2 := ps_sb_k _ l2 _ l1
      cases z1 : ps_sb (ps_yc p (2 ^ (i / 5))) (ps_yc p (2 ^ (i % 5))) with
      | true => exact br_t (q1.mpr z1) (nm_r (nI_1 i) (ht (by rw [e, z1]; simp)))
      | false =>
        refine br_f (fun w => by rw [q1.mp w] at z1; exact absurd z1 (by decide)) ?_
        cases z2 : ps_sb (ps_yc p (2 ^ (i % 5))) (ps_yc p (2 ^ (i / 5))) with
        | true => exact br_t (q2.mpr z2) (nm_r (nI_1 i) (ht (by rw [e, z2]; simp)))
        | false => exact br_f (fun w => by rw [q2.mp w] at z2; exact absurd z2 (by decide)) (hf (by rw [decide_eq_false c, b1, b2, e, z1, z2]; rfl))
theorem xp_chains {post : Int32 → Prop} {s : Nat} {w : Int32} {R : Nat → Nat → Bool} (hs : s < 3) (hL : ps_S L s R) (h : post (nI (ps_cn 32 (fun v => decide (1 ≤ v) && (decide (ps_on (nI v) 5 = w) && ps_xh R v))))) : wpX_chains post (L, im, re) (nI s) w := by
  unfold wpX_chains
  refine xp_sp1 hs (br_f zz_10 ?_)
  refine ps_lqs (fun n a i => 1 ≤ i → wX_chains_14 post (nI s) w L im re n a i) (fun i => nI (ps_cn i (fun v => decide (1 ≤ v) && (decide (ps_on (nI v) 5 = w) && ps_xh R v)))) 32 1 (by omega) (a0 := 0) rfl (fun n _ => br_t (zz_le 32) h) (fun n i hi k hi1 => ?_) |>.imp (fun n k => k (by decide))
  have i1 : 1 ≤ i := by
    rcases Nat.eq_zero_or_pos i with z | z
    · rw [z] at hi1; exact absurd hi1 (by decide)
    · exact z
  have k := k (nI_le (a := 1) (b := i + 1) (by omega) (by omega))
  have N : (decide (ps_on (nI i) 5 = w) && ps_xh R i) = false → wX_chains_44 post (wX_chains_14 post (nI s) w L im re n) (nI s) w (nI (ps_cn i (fun v => decide (1 ≤ v) && (decide (ps_on (nI v) 5 = w) && ps_xh R v)))) (nI i) L im re := fun z => by
    unfold wX_chains_44 wX_chains_45
    exact br_t rfl (nm_r ((ps_a0 _).trans (congrArg nI (ps_cnf (P := fun v => decide (1 ≤ v) && (decide (ps_on (nI v) 5 = w) && ps_xh R v)) (by rw [z]; exact Bool.and_false _)).symm)) (nm_r (nI_1 i) k))
  refine br_f (nI_ge (b := 32) hi (by decide)) (xp_ones (ps_eqB (fun e => xp_isChain (by omega) hi hL (zz_br (fun c => N (by rw [e, c]; rfl)) (fun c => ?_))) (fun e => N (by rw [e]; rfl))))
  unfold wX_chains_45
  exact br_f zz_10 (nm_r ((nI_1 _).trans (congrArg nI (ps_cnt (P := fun v => decide (1 ≤ v) && (decide (ps_on (nI v) 5 = w) && ps_xh R v)) (by rw [e, c, decide_eq_true i1]; rfl)).symm)) (nm_r (nI_1 i) k))
theorem yp_chains {post : Int32 → Prop} {s : Nat} {w : Int32} {p : Nat → Bool} (hs : s < 3) (hF : F s = ps_fm p) (h : post (nI (ps_cn 32 (fun v => decide (1 ≤ v) && (decide (ps_on (nI v) 5 = w) && ps_yh p v))))) : wpY_chains post (F, ma, tr) (nI s) w := by
  unfold wpY_chains
  refine yp_sp1 hs (br_f zz_10 ?_)
  refine ps_lqs (fun n a i => 1 ≤ i → wY_chains_15 post (nI s) w F ma tr n a i) (fun i => nI (ps_cn i (fun v => decide (1 ≤ v) && (decide (ps_on (nI v) 5 = w) && ps_yh p v)))) 32 1 (by omega) (a0 := 0) rfl (fun n _ => br_t (zz_le 32) h) (fun n i hi k hi1 => ?_) |>.imp (fun n k => k (by decide))
  have i1 : 1 ≤ i := by
    rcases Nat.eq_zero_or_pos i with z | z
    · rw [z] at hi1; exact absurd hi1 (by decide)
    · exact z
  have k := k (nI_le (a := 1) (b := i + 1) (by omega) (by omega))
  have N : (decide (ps_on (nI i) 5 = w) && ps_yh p i) = false → ∀ y : Int32, y = nI i + 1 → wY_chains_15 post (nI s) w F ma tr n (nI (ps_cn i (fun v => decide (1 ≤ v) && (decide (ps_on (nI v) 5 = w) && ps_yh p v)))) y := fun z => by
    refine nm_r (nI_1 i) ?_
    rw [ps_cnf (P := fun v => decide (1 ≤ v) && (decide (ps_on (nI v) 5 = w) && ps_yh p v)) (by rw [z]; exact Bool.and_false _)] at k
    exact k
  exact br_f (nI_ge (b := 32) hi (by decide)) (yp_size (ps_eqB (fun e => yp_isChain hs hi hF (zz_br (fun c => N (by rw [e, c]; rfl)) (fun c => nm_r ((nI_1 _).trans (congrArg nI (ps_cnt (P := fun v => decide (1 ≤ v) && (decide (ps_on (nI v) 5 = w) && ps_yh p v)) (by rw [e, c, decide_eq_true i1]; rfl)).symm)) (nm_r (nI_1 i) k)))) (fun e => N (by rw [e]; rfl))))
theorem i_vc_chains {k : Nat} {u : SX} {v : SY} (I : i_Rel k u v) (hk : k + 4 ≤ 2048) (v1 : Int32) (v2 : Int32) : wpX_chains (fun r => wpY_chains (fun r' => r' = r ∧ i_Rel (k + 4) u v) v v1 v2) u v1 v2 := by
  obtain ⟨L, im, re⟩ := u
  obtain ⟨F, ma, tr⟩ := v
  have I' : i_Rel (k + 4) (L, im, re) (F, ma, tr) := i_up I
  obtain ⟨R, hR⟩ := I
  have hR : ps_Rl L F R := hR
  rcases ps_cs 3 (by decide) v1 with b | ⟨s, hs, rfl⟩
  · unfold wpX_chains wpY_chains
    exact xp_sp0 b (br_t rfl (yp_sp0 b (br_t rfl ⟨rfl, I'⟩)))
  · refine xp_chains hs (hR s hs).2.1 (yp_chains hs (hR s hs).2.2 ⟨congrArg nI (ps_cn_cg fun i hi => ?_), I'⟩)
    rw [ps_chain (hR s hs).1]
end
end
section
/-! maps and same: pure part -/
def ps_se (f : Nat → Nat) (k v : Nat) : Nat → Nat := fun j => if j = k then v else f j
def ps_sr (r : Nat) (f : Nat → Nat) : Nat := (if r.testBit 0 then f 0 else 0) + (if r.testBit 1 then f 1 else 0) + (if r.testBit 2 then f 2 else 0) + (if r.testBit 3 then f 3 else 0) + (if r.testBit 4 then f 4 else 0)
def ps_nc (Q : Nat → (Nat → Nat) → Nat → Bool) : Nat → Nat → (Nat → Nat) → Nat
  | 0, _, _ => 1
  | d + 1, x, im => ps_sr (ps_ms (Q x im)) (fun z => ps_nc Q d (x + 1) (ps_se im x z))
def ps_ok (Q : Nat → (Nat → Nat) → Nat → Bool) : Nat → Nat → (Nat → Nat) → Nat → Bool
  | 0, _, _, _ => true
  | d + 1, x, im, m => Q x im (m % 5) && ps_ok Q d (x + 1) (ps_se im x (m % 5)) (m / 5)
theorem ps_cn_0 : ∀ n, ps_cn n (fun _ => false) = 0 := by
  intro n
  induction n with
  | zero => rfl
  | succ n ih => rw [ps_cnf (P := fun _ => false) rfl, ih]
theorem ps_cn_if (b : Bool) (n : Nat) (g : Nat → Bool) : ps_cn n (fun m => b && g m) = if b then ps_cn n g else 0 := by
  cases b
  · exact (ps_cn_cg (fun i _ => Bool.false_and _)).trans (ps_cn_0 n)
  · exact ps_cn_cg (fun i _ => Bool.true_and _)
theorem ps_cn_split (g : Nat → Nat → Bool) : ∀ n, ps_cn (5 * n) (fun m => g (m % 5) (m / 5)) = ps_cn n (g 0) + ps_cn n (g 1) + ps_cn n (g 2) + ps_cn n (g 3) + ps_cn n (g 4) := by
  intro n
  induction n with
  | zero => rfl
  | succ n ih =>
    have e : ps_cn (5 * (n + 1)) (fun m => g (m % 5) (m / 5)) = ps_cn (5 * n) (fun m => g (m % 5) (m / 5)) + (if g ((5 * n) % 5) ((5 * n) / 5) then 1 else 0) + (if g ((5 * n + 1) % 5) ((5 * n + 1) / 5) then 1 else 0) + (if g ((5 * n + 2) % 5) ((5 * n + 2) / 5) then 1 else 0) + (if g ((5 * n + 3) % 5) ((5 * n + 3) / 5) then 1 else 0) + (if g ((5 * n + 4) % 5) ((5 * n + 4) / 5) then 1 else 0) := rfl
    rw [e, ih, show (5 * n) % 5 = 0 by omega, show (5 * n) / 5 = n by omega, show (5 * n + 1) % 5 = 1 by omega, show (5 * n + 1) / 5 = n by omega, show (5 * n + 2) % 5 = 2 by omega, show (5 * n + 2) / 5 = n by omega, show (5 * n + 3) % 5 = 3 by omega, show (5 * n + 3) / 5 = n by omega, show (5 * n + 4) % 5 = 4 by omega, show (5 * n + 4) / 5 = n by omega]
    show _ = (ps_cn n (g 0) + (if g 0 n then 1 else 0)) + (ps_cn n (g 1) + (if g 1 n then 1 else 0)) + (ps_cn n (g 2) + (if g 2 n then 1 else 0)) + (ps_cn n (g 3) + (if g 3 n then 1 else 0)) + (ps_cn n (g 4) + (if g 4 n then 1 else 0))
    omega
theorem ps_sr_ms (q : Nat → Bool) (f : Nat → Nat) : ps_sr (ps_ms q) f = (if q 0 then f 0 else 0) + (if q 1 then f 1 else 0) + (if q 2 then f 2 else 0) + (if q 3 then f 3 else 0) + (if q 4 then f 4 else 0) := by
  unfold ps_sr
  rw [ps_ms_tb q 0 (by omega), ps_ms_tb q 1 (by omega), ps_ms_tb q 2 (by omega), ps_ms_tb q 3 (by omega), ps_ms_tb q 4 (by omega)]
theorem ps_nc_cn (Q : Nat → (Nat → Nat) → Nat → Bool) : ∀ d x im, ps_nc Q d x im = ps_cn (5 ^ d) (ps_ok Q d x im) := by
  intro d
  induction d with
  | zero => intro x im; rfl
  | succ d ih =>
    intro x im
    show ps_sr (ps_ms (Q x im)) (fun z => ps_nc Q d (x + 1) (ps_se im x z)) = _
    have e : ps_cn (5 ^ (d + 1)) (ps_ok Q (d + 1) x im) = ps_cn (5 * 5 ^ d) (fun m => (fun z j => Q x im z && ps_ok Q d (x + 1) (ps_se im x z) j) (m % 5) (m / 5)) := by
      rw [Nat.pow_succ, Nat.mul_comm]
      rfl
    refine Eq.trans ?_ (e.trans (ps_cn_split (fun z j => Q x im z && ps_ok Q d (x + 1) (ps_se im x z) j) (5 ^ d))).symm
    show _ = ps_cn (5 ^ d) (fun j => Q x im 0 && ps_ok Q d (x + 1) (ps_se im x 0) j) + ps_cn (5 ^ d) (fun j => Q x im 1 && ps_ok Q d (x + 1) (ps_se im x 1) j) + ps_cn (5 ^ d) (fun j => Q x im 2 && ps_ok Q d (x + 1) (ps_se im x 2) j) + ps_cn (5 ^ d) (fun j => Q x im 3 && ps_ok Q d (x + 1) (ps_se im x 3) j) + ps_cn (5 ^ d) (fun j => Q x im 4 && ps_ok Q d (x + 1) (ps_se im x 4) j)
    rw [ps_sr_ms, ps_cn_if, ps_cn_if, ps_cn_if, ps_cn_if, ps_cn_if, ← ih, ← ih, ← ih, ← ih, ← ih]
theorem ps_ok_iff {Q : Nat → (Nat → Nat) → Nat → Bool} (hQ : ∀ x im im' z, (∀ y, y < x → im y = im' y) → Q x im z = Q x im' z) (M : Nat) : ∀ d x im m, x + d = 5 → (∀ y, y < x → im y = ps_dg M y) → m = M / 5 ^ x → (ps_ok Q d x im m = true ↔ ∀ i, x ≤ i → i < 5 → Q i (ps_dg M) (ps_dg M i) = true) := by
  intro d
  induction d with
  | zero =>
    intro x im m hx _ _
    exact ⟨fun _ i h1 h2 => by omega, fun _ => rfl⟩
  | succ d ih =>
    intro x im m hx hi hm
    have z : m % 5 = ps_dg M x := by rw [hm]; rfl
    show (Q x im (m % 5) && ps_ok Q d (x + 1) (ps_se im x (m % 5)) (m / 5)) = true ↔ _
    rw [zz_and, ih (x + 1) (ps_se im x (m % 5)) (m / 5) (by omega) (fun y hy => ?_) (by rw [hm, ps_dS]), z, hQ x im (ps_dg M) _ hi]
    · constructor
      · rintro ⟨a, b⟩ i h1 h2
        rcases Nat.lt_or_ge x i with c | c
        · exact b i c h2
        · have e : i = x := by omega
          rw [e]; exact a
      · intro h
        exact ⟨h x (Nat.le_refl x) (by omega), fun i h1 h2 => h i (by omega) h2⟩
    · unfold ps_se
      by_cases e : y = x
      · rw [if_pos e, z, e]
      · rw [if_neg e]; exact hi y (by omega)
theorem ps_nc5 {Q : Nat → (Nat → Nat) → Nat → Bool} (hQ : ∀ x im im' z, (∀ y, y < x → im y = im' y) → Q x im z = Q x im' z) (im : Nat → Nat) : ps_nc Q 5 0 im = ps_cn 3125 (fun m => ps_al 5 (fun x => Q x (ps_dg m) (ps_dg m x))) := by
  rw [ps_nc_cn]
  refine ps_cn_cg (n := 3125) (fun m _ => zz_bq ?_)
  rw [ps_ok_iff hQ m 5 0 im m rfl (fun y hy => absurd hy (Nat.not_lt_zero y)) (by simp), ps_al_iff]
  exact ⟨fun h i hi => h i (Nat.zero_le i) hi, fun h i _ hi => h i hi⟩
/-- the two choice tests -/
def ps_q0 (R T : Nat → Nat → Bool) (x : Nat) (im : Nat → Nat) (z : Nat) : Bool := ps_al x (fun y => (!R y x || T (im y) z) && (!R x y || T z (im y)))
def ps_q1 (R T : Nat → Nat → Bool) (x : Nat) (im : Nat → Nat) (z : Nat) : Bool := ps_al x (fun y => (R y x == T (im y) z) && (R x y == T z (im y)) && !decide (z = im y))
theorem ps_q0_cg (R T : Nat → Nat → Bool) : ∀ x im im' z, (∀ y, y < x → im y = im' y) → ps_q0 R T x im z = ps_q0 R T x im' z := fun x im im' z h => ps_al_cg (fun y hy => by rw [h y hy])
theorem ps_q1_cg (R T : Nat → Nat → Bool) : ∀ x im im' z, (∀ y, y < x → im y = im' y) → ps_q1 R T x im z = ps_q1 R T x im' z := fun x im im' z h => ps_al_cg (fun y hy => by rw [h y hy])
theorem ps_maps {R T : Nat → Nat → Bool} (hT : ps_Pre T) (m : Nat) : ps_al 5 (fun x => ps_q0 R T x (ps_dg m) (ps_dg m x)) = ps_ct (ps_OP R) (ps_OP T) m := by
  apply zz_bq
  rw [ps_al_iff, ps_ct_iff hT]
  constructor
  · intro h x hx u hu r
    rcases Nat.lt_trichotomy x u with c | c | c
    · have k := zz_and.mp (ps_al_iff.mp (h u hu) x c)
      exact zz_imp.mp k.1 r
    · rw [c]; exact hT.1 _ (ps_dg_lt m u)
    · have k := zz_and.mp (ps_al_iff.mp (h x hx) u c)
      exact zz_imp.mp k.2 r
  · intro h x hx
    exact ps_al_iff.mpr (fun y hy => zz_and.mpr ⟨zz_imp.mpr (h y (by omega) x hx), zz_imp.mpr (h x hx y (by omega))⟩)
def ps_ij (m : Nat) : Bool := ps_al 5 (fun x => ps_al x (fun y => !decide (ps_dg m x = ps_dg m y)))
theorem ps_sur_k : ∀ m, m < 3125 → (decide (ps_tk m 31 = 31)) = ps_ij m := by decide +kernel
theorem ps_same {R T : Nat → Nat → Bool} (hR : ps_Pre R) (hT : ps_Pre T) {m : Nat} (hm : m < 3125) : ps_al 5 (fun x => ps_q1 R T x (ps_dg m) (ps_dg m x)) = (decide (ps_tk m 31 = 31) && (ps_ct (ps_OP R) (ps_OP T) m && ps_bk (ps_OP R) (ps_OP T) m)) := by
  apply zz_bq
  rw [zz_and, zz_and, ps_ct_iff hT]
  have IJ : decide (ps_tk m 31 = 31) = true ↔ ∀ x, x < 5 → ∀ y, y < 5 → ps_dg m x = ps_dg m y → x = y := by
    rw [ps_sur_k m hm]
    unfold ps_ij
    rw [ps_al_iff]
    constructor
    · intro h x hx y hy e
      rcases Nat.lt_trichotomy x y with c | c | c
      · have k := ps_al_iff.mp (h y hy) x c
        rw [zz_not, decide_eq_true_eq] at k
        exact absurd e.symm k
      · exact c
      · have k := ps_al_iff.mp (h x hx) y c
        rw [zz_not, decide_eq_true_eq] at k
        exact absurd e k
    · intro h x hx
      rw [ps_al_iff]
      intro y hy
      rw [zz_not, decide_eq_true_eq]
      intro e
      have k := h x hx y (by omega) e
      omega
  have A : ps_al 5 (fun x => ps_q1 R T x (ps_dg m) (ps_dg m x)) = true ↔ (∀ x, x < 5 → ∀ y, y < 5 → ps_dg m x = ps_dg m y → x = y) ∧ (∀ x, x < 5 → ∀ y, y < 5 → R x y = T (ps_dg m x) (ps_dg m y)) := by
    rw [ps_al_iff]
    constructor
    · intro h
      have K : ∀ x, x < 5 → ∀ y, y < x → R y x = T (ps_dg m y) (ps_dg m x) ∧ R x y = T (ps_dg m x) (ps_dg m y) ∧ ¬ ps_dg m x = ps_dg m y := fun x hx y hy => by
        have k := zz_and.mp (ps_al_iff.mp (h x hx) y hy)
        have k1 := zz_and.mp k.1
        have k2 := zz_not.mp k.2
        rw [decide_eq_true_eq] at k2
        exact ⟨eq_of_beq k1.1, eq_of_beq k1.2, k2⟩
      constructor
      · intro x hx y hy e
        rcases Nat.lt_trichotomy x y with c | c | c
        · exact absurd e.symm (K y hy x c).2.2
        · exact c
        · exact absurd e (K x hx y c).2.2
      · intro x hx y hy
        rcases Nat.lt_trichotomy x y with c | c | c
        · exact (K y hy x c).1
        · rw [c, hR.1 y hy, hT.1 _ (ps_dg_lt m y)]
        · exact (K x hx y c).2.1
    · rintro ⟨h1, h2⟩ x hx
      refine ps_al_iff.mpr (fun y hy => zz_and.mpr ⟨zz_and.mpr ⟨?_, ?_⟩, ?_⟩)
      · rw [h2 y (by omega) x hx]; exact beq_self_eq_true _
      · rw [h2 x hx y (by omega)]; exact beq_self_eq_true _
      · rw [zz_not, decide_eq_true_eq]
        intro e
        have k := h1 x hx y (by omega) e
        omega
  rw [A, IJ]
  constructor
  · rintro ⟨h1, h2⟩
    have SU := IJ.mpr h1
    rw [decide_eq_true_eq] at SU
    refine ⟨h1, fun x hx u hu r => by rw [← h2 x hx u hu]; exact r, ?_⟩
    unfold ps_bk
    rw [ps_al_iff]
    intro v hv
    rw [zz_imp, ps_OP_iff, ps_OP_iff]
    intro o y hy b z hz r
    obtain ⟨x, hx, c, e⟩ := (ps_tk_tb hy).mp b
    have sz : (ps_tk m 31).testBit z = true := by rw [SU]; exact ps_31 z hz
    obtain ⟨u, hu, _, e2⟩ := (ps_tk_tb hz).mp sz
    rw [e, e2, ← h2 x hx u hu] at r
    exact (ps_tk_tb hz).mpr ⟨u, hu, o x hx c u hu r, e2⟩
  · rintro ⟨h1, h2, h3⟩
    refine ⟨h1, fun x hx y hy => zz_bq ⟨h2 x hx y hy, fun r => ?_⟩⟩
    unfold ps_bk at h3
    have k := zz_imp.mp (ps_al_iff.mp h3 (ps_ms (R x)) (ps_ms_lt _)) (ps_up hR hx)
    rw [ps_OP_iff] at k
    have k := k (ps_dg m x) (ps_dg_lt m x) ((ps_tk_tb (ps_dg_lt m x)).mpr ⟨x, hx, by rw [ps_ms_tb _ x hx]; exact hR.1 x hx, rfl⟩) (ps_dg m y) (ps_dg_lt m y) r
    obtain ⟨u, hu, c, e⟩ := (ps_tk_tb (ps_dg_lt m y)).mp k
    rw [h1 y hy u hu e]
    rw [ps_ms_tb _ u hu] at c
    exact c
/-! the lowest point of a set -/
theorem ps_low_b : ∀ r, r < 32 → ∀ z, z < 5 → (r.testBit z && ps_al z (fun j => !r.testBit j)) = true → ((r &&& (r - 1)) < r ∧ ps_po r = ps_po (r &&& (r - 1)) + 1) := by decide +kernel
theorem ps_low_c : ∀ r, r < 32 → ∀ z, z < 5 → (r.testBit z && ps_al z (fun j => !r.testBit j)) = true → (ps_al 5 (fun i => (r &&& (r - 1)).testBit i == (r.testBit i && !decide (i = z)))) = true := by decide +kernel
theorem ps_low_k {r : Nat} (hr : r < 32) {z : Nat} (hz : z < 5) (b : r.testBit z = true) (l : ∀ j, j < z → r.testBit j = false) : (r &&& (r - 1)) < r ∧ ps_po r = ps_po (r &&& (r - 1)) + 1 ∧ ∀ i, i < 5 → (r &&& (r - 1)).testBit i = (r.testBit i && !decide (i = z)) := by
  have h : (r.testBit z && ps_al z (fun j => !r.testBit j)) = true := zz_and.mpr ⟨b, ps_al_iff.mpr (fun j hj => by rw [l j hj]; rfl)⟩
  have k := ps_low_b r hr z hz h
  exact ⟨k.1, k.2, fun i hi => eq_of_beq (ps_al_iff.mp (ps_low_c r hr z hz h) i hi)⟩
theorem ps_lowI : ∀ r, r < 32 → 0 < r → nI r &&& (nI r - 1) = nI (r &&& (r - 1)) := by decide +kernel
theorem ps_sr_low {r z : Nat} (hr : r < 32) (hz : z < 5) (b : r.testBit z = true) (l : ∀ j, j < z → r.testBit j = false) (f : Nat → Nat) : ps_sr r f = f z + ps_sr (r &&& (r - 1)) f := by
  have k := (ps_low_k hr hz b l).2.2
  unfold ps_sr
  rw [k 0 (by omega), k 1 (by omega), k 2 (by omega), k 3 (by omega), k 4 (by omega)]
  clear k l
  match z, hz, b with
  | 0, _, b => simp [b]; omega
  | 1, _, b => simp [b]; omega
  | 2, _, b => simp [b]; omega
  | 3, _, b => simp [b]; omega
  | 4, _, b => simp [b]; omega
theorem ps_po_le (r : Nat) : ps_po r ≤ 5 := ps_cn_le _ 5
end
section
/-! maps and same: the walks -/
theorem ps_andn_k : ∀ a, a < 32 → ∀ b, b < 32 → nI a &&& (nI b ^^^ (-1)) = nI (a &&& (31 - b)) := by decide +kernel
theorem ps_and31 : ∀ a, a < 32 → nI a &&& 31 = nI a := by decide +kernel
theorem ps_andn (p q : Nat → Bool) : nI (ps_ms p) &&& (nI (ps_ms q) ^^^ (-1)) = nI (ps_ms (fun i => p i && !q i)) := by
  rw [ps_andn_k _ (ps_ms_lt p) _ (ps_ms_lt q)]
  have lq := ps_ms_lt q
  refine congrArg nI (ps_ms_eq (ps_and_lt _ (ps_ms_lt p) _ (by omega)) (fun i hi => ?_))
  rw [Nat.testBit_and, ps_ms_tb p i hi, ps_co _ (ps_ms_lt q) i hi, ps_ms_tb q i hi]
theorem ps_2ms {x : Nat} (hx : x < 5) : 2 ^ x = ps_ms (fun i => decide (i = x)) := ps_ms_eq (ps_2lt x hx) (fun i hi => ps_2x x hx i hi)
section
variable {L A B F ma tr : Nat → Int32}
theorem xp_choices {post : Int32 → Prop} {s t x : Nat} {R T : Nat → Nat → Bool} {im : Nat → Nat} (hs : s < 3) (ht : t < 3) (hx : x < 5) (hL : ps_S L s R) (hT : ps_S L t T) (hA : ∀ y, y < x → A y = nI (im y) ∧ im y < 5) (h : post (nI (ps_ms (ps_q0 R T x im)))) : wpX_choices post (L, A, B) (nI s) (nI t) (nI x) := by
  unfold wpX_choices
  refine ps_lq (fun n a i => wX_choices_7 post (nI s) (nI t) (nI x) L A B n a i) (fun i => nI (ps_ms (fun z => ps_al i (fun y => (!R y x || T (im y) z) && (!R x y || T z (im y)))))) x rfl (fun n => br_t (zz_le x) h) (fun n i hi k => ?_)
  have hi5 : i < 5 := by omega
  obtain ⟨ei, li⟩ := hA i hi
  have cA : A (nI i).toNatClampNeg = nI (im i) := by rw [nI_clamp (by omega), ei]
  have iv : vp_in (nI i) 5 := vp_in_nI hi5 (by decide)
  have T41 : ∀ q : Nat → Bool, (∀ z, z < 5 → q z = (ps_al i (fun y => (!R y x || T (im y) z) && (!R x y || T z (im y))) && (!R i x || T (im i) z))) → wX_choices_41 post (wX_choices_7 post (nI s) (nI t) (nI x) L A B n) (nI s) (nI t) (nI x) (nI (ps_ms q)) (nI i) L A B := by
    intro q hq
    unfold wX_choices_41
    refine xp_lies (by omega) hx hi5 (hL x hx) (zz_br (fun e => nm_r (nI_1 i) ?_) (fun e => ⟨iv, ?_⟩))
    · have z : ps_ms q = ps_ms (fun z => ps_al (i + 1) (fun y => (!R y x || T (im y) z) && (!R x y || T z (im y)))) := ps_ms_cg (fun z hz => by
        rw [hq z hz]
        show _ = (ps_al i _ && ((!R i x || T (im i) z) && (!R x i || T z (im i))))
        rw [e]; simp)
      rw [z]
      exact k
    · rw [cA, ps_1x _ li]
      refine xp_closureOf (by omega) (ps_2lt _ li) hT (nm_r (e' := nI (ps_ms (fun z => ps_al (i + 1) (fun y => (!R y x || T (im y) z) && (!R x y || T z (im y)))))) ?_ (nm_r (nI_1 i) k))
      rw [ps_cl1 li, ps_and]
      refine congrArg nI (ps_ms_cg fun z hz => ?_)
      rw [hq z hz]
      show _ = (ps_al i _ && ((!R i x || T (im i) z) && (!R x i || T z (im i))))
      rw [e, ← Bool.and_assoc]
      rfl
  refine br_f (nI_ge hi (by omega)) (xp_lies (by omega) hi5 hx (hL i hi5) (zz_br (fun e => T41 _ (fun z _ => by rw [e]; simp)) (fun e => ⟨iv, ?_⟩)))
  rw [cA]
  refine xp_ab (by omega) li (hT _ li) (nm_r (ps_and _ _) (T41 _ (fun z _ => by rw [e]; rfl)))
theorem xp_sameChoices {post : Int32 → Prop} {s t x : Nat} {R T : Nat → Nat → Bool} {im : Nat → Nat} (hs : s < 3) (ht : t < 3) (hx : x < 5) (hL : ps_S L s R) (hT : ps_S L t T) (hA : ∀ y, y < x → A y = nI (im y) ∧ im y < 5) (h : post (nI (ps_ms (ps_q1 R T x im)))) : wpX_sameChoices post (L, A, B) (nI s) (nI t) (nI x) := by
  unfold wpX_sameChoices
  refine ps_lq (fun n a i => wX_sameChoices_7 post (nI s) (nI t) (nI x) L A B n a i) (fun i => nI (ps_ms (fun z => ps_al i (fun y => (R y x == T (im y) z) && (R x y == T z (im y)) && !decide (z = im y))))) x rfl (fun n => br_t (zz_le x) (zz_v (P := post) (ps_and31 _ (ps_ms_lt _)) h)) (fun n i hi k => ?_)
  have hi5 : i < 5 := by omega
  obtain ⟨ei, li⟩ := hA i hi
  have cA : A (nI i).toNatClampNeg = nI (im i) := by rw [nI_clamp (by omega), ei]
  have iv : vp_in (nI i) 5 := vp_in_nI hi5 (by decide)
  have T90 : ∀ (q : Nat → Bool) (z0 z1 : Int32), z1 &&& z0 = nI (ps_ms q) → (∀ z, z < 5 → q z = (ps_al i (fun y => (R y x == T (im y) z) && (R x y == T z (im y)) && !decide (z = im y)) && ((R i x == T (im i) z) && (R x i == T z (im i))))) → wX_sameChoices_90 post (wX_sameChoices_7 post (nI s) (nI t) (nI x) L A B n) (nI s) (nI t) (nI x) (nI i) z0 z1 L A B := by
    intro q z0 z1 hz hq
    unfold wX_sameChoices_90
    rw [cA, ps_1x _ li]
    refine nm_r hz ⟨iv, nm_r (e' := nI (ps_ms (fun z => ps_al (i + 1) (fun y => (R y x == T (im y) z) && (R x y == T z (im y)) && !decide (z = im y))))) ?_ (nm_r (nI_1 i) k)⟩
    rw [ps_2ms li, ps_andn]
    refine congrArg nI (ps_ms_cg fun z hz => ?_)
    rw [hq z hz]
    exact Bool.and_assoc _ _ _
  have T65 : ∀ (q : Nat → Bool) (z0 z1 : Int32), z1 &&& z0 = nI (ps_ms q) → (∀ z, z < 5 → q z = (ps_al i (fun y => (R y x == T (im y) z) && (R x y == T z (im y)) && !decide (z = im y)) && (R i x == T (im i) z))) → wX_sameChoices_65 post (wX_sameChoices_7 post (nI s) (nI t) (nI x) L A B n) (nI s) (nI t) (nI x) (nI i) (nI (ps_ms (ps_tn T (im i)))) z0 z1 L A B := by
    intro q z0 z1 hz hq
    unfold wX_sameChoices_65
    refine nm_r hz (xp_lies (by omega) hx hi5 (hL x hx) (zz_br (fun e => T90 _ _ _ (ps_andn _ _) (fun z hz => ?_)) (fun e => T90 _ _ _ (ps_and _ _) (fun z hz => ?_))))
    · rw [hq z hz, Bool.and_assoc, e]
      show (_ && (_ && !T z (im i))) = _
      cases T z (im i) <;> rfl
    · rw [hq z hz, Bool.and_assoc, e]
      show (_ && (_ && T z (im i))) = _
      cases T z (im i) <;> rfl
  refine br_f (nI_ge hi (by omega)) ⟨iv, ?_⟩
  rw [cA, ps_1x _ li]
  refine xp_ab (by omega) li (hT _ li) ⟨iv, xp_closureOf (by omega) (ps_2lt _ li) hT ?_⟩
  rw [ps_cl1 li]
  refine xp_lies (by omega) hi5 hx (hL i hi5) (zz_br (fun e => T65 _ _ _ (ps_andn _ _) (fun z hz => ?_)) (fun e => T65 _ _ _ (ps_and _ _) (fun z hz => ?_)))
  · rw [e]
    cases T (im i) z <;> rfl
  · rw [e]
    cases T (im i) z <;> rfl
theorem xp_lowest {post : Int32 → Prop} {r : Nat} (hr : r < 32) (h0 : 0 < r) (h : ∀ z, z < 5 → r.testBit z = true → (∀ j, j < z → r.testBit j = false) → post (nI z)) : wpX_lowest post (nI r) := by
  unfold wpX_lowest
  have H : ∀ d x, x + d = 5 → (∀ j, j < x → r.testBit j = false) → wX_lowest_2 post (nI r) (d + 1) (nI x) := by
    intro d
    induction d with
    | zero =>
      intro x hx hj
      exfalso
      have e : r = 0 := ps_tb hr (by omega) (fun i hi => by rw [hj i (by omega), ps_00])
      omega
    | succ d ih =>
      intro x hx hj
      have x5 : x < 5 := by omega
      refine br_f (nI_ge (b := 5) x5 (by decide)) (xp_in hr x5 (zz_br (fun e => nm_r (nI_1 x) (ih (x + 1) (by omega) (fun j q => ?_))) (fun e => h x x5 e hj)))
      rcases Nat.lt_or_ge j x with c | c
      · exact hj j c
      · have k : j = x := by omega
        rw [k]; exact e
  exact ⟨6, H 5 0 rfl (fun j hj => absurd hj (Nat.not_lt_zero j))⟩
def ps_bu : Nat → Nat
  | 0 => 0
  | d + 1 => 5 * (1 + ps_bu d) + 1
theorem ps_lev {post : Int32 → SX → Prop} {s t : Nat} {x3 : Int32} {Q : Nat → (Nat → Nat) → Nat → Bool} (hC : ∀ (post : Int32 → Prop) (x : Nat) (im : Nat → Nat) (A B : Nat → Int32), x < 5 → (∀ y, y < x → A y = nI (im y) ∧ im y < 5) → post (nI (ps_ms (Q x im))) → ((x3 = 0 → wpX_choices post (L, A, B) (nI s) (nI t) (nI x)) ∧ (¬ x3 = 0 → wpX_sameChoices post (L, A, B) (nI s) (nI t) (nI x)))) : ∀ d x, x + d = 4 → ∀ r, r < 32 → ∀ (c tm f : Nat) (im : Nat → Nat) (A B : Nat → Int32), (∀ y, y < x → A y = nI (im y) ∧ im y < 5) → B x = nI r → tm + (ps_po r * (1 + ps_bu d) + 1) ≤ 40000 → 40001 ≤ f + tm → (∀ (f' tm' : Nat) (A' B' : Nat → Int32), (∀ y, y < x → A' y = A y) → (∀ y, y < x → B' y = B y) → tm' ≤ tm + (ps_po r * (1 + ps_bu d) + 1) → 40001 ≤ f' + tm' → wX_countMaps_17 post (nI s) (nI t) x3 f' (nI (c + ps_sr r (fun z => ps_nc Q d (x + 1) (ps_se im x z)))) (nI x + (-1)) (nI tm') L A' B') → wX_countMaps_17 post (nI s) (nI t) x3 f (nI c) (nI x) (nI tm) L A B := by
  intro d
  induction d with
  | zero =>
    intro x hx r
    have e4 : x = 4 := hx
    subst e4
    induction r using Nat.strongRecOn with
    | ind r ihr =>
      intro hr c tm f im A B hA hB ht hf K
      obtain ⟨f, rfl⟩ : ∃ g, f = g + 1 := ⟨f - 1, by omega⟩
      have v4 : vp_in (nI 4) 5 := vp_in_nI (by omega) (by decide)
      have c4 : (nI 4).toNatClampNeg = 4 := nI_clamp (by decide)
      refine br_f (nI_ge (b := 40000) (by omega) (by decide)) (br_f (nI_pos (by decide)) ⟨v4, ?_⟩)
      rw [c4, hB]
      rcases Nat.eq_zero_or_pos r with z | z
      · subst z
        refine br_t rfl (nm_e (nm_r (nI_1 tm) ?_))
        exact K f (tm + 1) A B (fun _ _ => rfl) (fun _ _ => rfl) (by omega) (by omega)
      · refine br_f (nI_ne0 z (by omega)) ⟨v4, xp_lowest hr z (fun w hw b l => ⟨v4, nm_e ⟨v4, v4, v4, nm_e (br_t rfl (nm_r (nI_1 c) (nm_r (nI_1 tm) ?_)))⟩⟩)⟩
        have k := ps_low_k hr hw b l
        have ep : ps_po r * (1 + ps_bu 0) = ps_po (r &&& (r - 1)) * (1 + ps_bu 0) + (1 + ps_bu 0) := by rw [k.2.1, Nat.succ_mul]
        have b0 : ps_bu 0 = 0 := rfl
        refine ihr (r &&& (r - 1)) k.1 (by omega) (c + 1) (tm + 1) f im (upd A 4 (nI w)) (upd B 4 (nI r &&& (nI r - 1))) (fun y hy => by rw [pk_un (by omega)]; exact hA y hy) (by rw [pk_us, ps_lowI r hr z]) (by omega) (by omega) ?_
        intro f' tm' A' B' h1 h2 h3 h4
        have K := K f' tm' A' B' (fun y hy => by rw [h1 y hy, pk_un (by omega)]) (fun y hy => by rw [h2 y hy, pk_un (by omega)]) (by omega) h4
        rw [ps_sr_low hr hw b l, ← Nat.add_assoc] at K
        exact K
  | succ d ihd =>
    intro x hx r
    have x4 : x < 4 := by omega
    induction r using Nat.strongRecOn with
    | ind r ihr =>
      intro hr c tm f im A B hA hB ht hf K
      obtain ⟨f, rfl⟩ : ∃ g, f = g + 1 := ⟨f - 1, by omega⟩
      have vx : vp_in (nI x) 5 := vp_in_nI (by omega) (by decide)
      have cx : (nI x).toNatClampNeg = x := nI_clamp (by omega)
      refine br_f (nI_ge (b := 40000) (by omega) (by decide)) (br_f (nI_pos (by omega)) ⟨vx, ?_⟩)
      rw [cx, hB]
      rcases Nat.eq_zero_or_pos r with z | z
      · subst z
        refine br_t rfl (nm_e (nm_r (nI_1 tm) ?_))
        exact K f (tm + 1) A B (fun _ _ => rfl) (fun _ _ => rfl) (by omega) (by omega)
      · have n4 : ¬ nI x = nI 4 := by rw [nI_eq (by omega) (by decide)]; omega
        have vx1 : vp_in (nI (x + 1)) 5 := vp_in_nI (by omega) (by decide)
        refine br_f (nI_ne0 z (by omega)) ⟨vx, xp_lowest hr z (fun w hw b l => ⟨vx, nm_e ⟨vx, vx, vx, nm_e (br_f n4 (nm_r (nI_1 x) ?_))⟩⟩)⟩
        have k := ps_low_k hr hw b l
        have ep : ps_po r * (1 + ps_bu (d + 1)) = ps_po (r &&& (r - 1)) * (1 + ps_bu (d + 1)) + (1 + ps_bu (d + 1)) := by rw [k.2.1, Nat.succ_mul]
        have A1 : ∀ y, y < x + 1 → upd A x (nI w) y = nI (ps_se im x w y) ∧ ps_se im x w y < 5 := fun y hy => by
          unfold ps_se
          by_cases e : y = x
          · rw [if_pos e, e, pk_us]; exact ⟨rfl, hw⟩
          · rw [if_neg e, pk_un e]; exact hA y (by omega)
        have pq := ps_po_le (ps_ms (Q (x + 1) (ps_se im x w)))
        have pm : ps_po (ps_ms (Q (x + 1) (ps_se im x w))) * (1 + ps_bu d) ≤ 5 * (1 + ps_bu d) := Nat.mul_le_mul_right _ pq
        have bd : ps_bu (d + 1) = 5 * (1 + ps_bu d) + 1 := rfl
        refine hC _ (x + 1) (ps_se im x w) (upd A x (nI w)) (upd B x (nI r &&& (nI r - 1))) (by omega) A1 ⟨vx1, ?_⟩
        rw [nI_clamp (show x + 1 < 2 ^ 31 by omega)]
        refine nm_e (nm_r (nI_1 tm) ?_)
        refine ihd (x + 1) (by omega) (ps_ms (Q (x + 1) (ps_se im x w))) (ps_ms_lt _) c (tm + 1) f (ps_se im x w) _ _ A1 pk_us (by omega) (by omega) ?_
        intro f1 tm1 A2 B2 h1 h2 h3 h4
        rw [pk_m1]
        refine ihr (r &&& (r - 1)) k.1 (by omega) _ tm1 f1 im A2 B2 (fun y hy => ?_) ?_ (by omega) h4 ?_
        · rw [h1 y (by omega), pk_un (by omega)]
          exact hA y hy
        · rw [h2 x (by omega), pk_un (by omega), pk_us, ps_lowI r hr z]
        · intro f' tm' A' B' g1 g2 g3 g4
          have K := K f' tm' A' B' (fun y hy => by rw [g1 y hy, h1 y (by omega), pk_un (by omega)]) (fun y hy => by rw [g2 y hy, h2 y (by omega), pk_un (by omega), pk_un (by omega)]) (by omega) g4
          rw [ps_sr_low hr hw b l, ← Nat.add_assoc] at K
          exact K
theorem xp_countMaps {post : Int32 → SX → Prop} {s t : Nat} {x3 : Int32} {Q : Nat → (Nat → Nat) → Nat → Bool} (hC : ∀ (post : Int32 → Prop) (x : Nat) (im : Nat → Nat) (A B : Nat → Int32), x < 5 → (∀ y, y < x → A y = nI (im y) ∧ im y < 5) → post (nI (ps_ms (Q x im))) → ((x3 = 0 → wpX_choices post (L, A, B) (nI s) (nI t) (nI x)) ∧ (¬ x3 = 0 → wpX_sameChoices post (L, A, B) (nI s) (nI t) (nI x)))) (hQ : ∀ x im im' z, (∀ y, y < x → im y = im' y) → Q x im z = Q x im' z) (h0 : ∀ im z, Q 0 im z = true) (h : ∀ A' B', post (nI (ps_cn 3125 (fun m => ps_al 5 (fun x => Q x (ps_dg m) (ps_dg m x))))) (L, A', B')) : wpX_countMaps post (L, A, B) (nI s) (nI t) x3 := by
  unfold wpX_countMaps
  refine nm_e ⟨40001, ?_⟩
  have p31 : ps_po 31 = 5 := by decide
  have b4 : ps_bu 4 = 936 := by decide
  have S : ps_sr 31 (fun z => ps_nc Q 4 1 (ps_se (fun _ => 0) 0 z)) = ps_cn 3125 (fun m => ps_al 5 (fun x => Q x (ps_dg m) (ps_dg m x))) := by
    rw [← ps_nc5 hQ (fun _ => 0)]
    show _ = ps_sr (ps_ms (Q 0 (fun _ => 0))) (fun z => ps_nc Q 4 1 (ps_se (fun _ => 0) 0 z))
    have e : ps_ms (Q 0 (fun _ => 0)) = 31 := (ps_ms_cg (q := fun _ => true) (fun i _ => h0 _ i)).trans rfl
    rw [e]
  refine ps_lev hC 4 0 rfl 31 (by decide) 0 0 40001 (fun _ => 0) A (upd B 0 31) (fun y hy => absurd hy (Nat.not_lt_zero y)) pk_us (by rw [p31, b4]; decide) (by decide) ?_
  intro f' tm' A' B' _ _ h3 h4
  rw [p31, b4] at h3
  obtain ⟨f, rfl⟩ : ∃ g, f' = g + 1 := ⟨f' - 1, by omega⟩
  rw [S, Nat.zero_add]
  exact br_f (nI_ge (b := 40000) (by omega) (by decide)) (br_t (by decide) (h A' B'))
theorem yp_maps {post : Int32 → Prop} {s t : Nat} {p q : Nat → Bool} (hs : s < 3) (ht : t < 3) (hp : F s = ps_fm p) (hq : F t = ps_fm q) (h : post (nI (ps_cn 3125 (fun m => ps_ct p q m)))) : wpY_maps post (F, ma, tr) (nI s) (nI t) := by
  unfold wpY_maps
  refine yp_sp1 hs (br_f zz_10 (yp_sp1 ht (br_f zz_10 ?_)))
  refine ps_lq (fun n a i => wY_maps_23 post (nI s) (nI t) F ma tr n a i) (fun i => nI (ps_cn i (fun m => ps_ct p q m))) 3125 rfl (fun n => br_t (zz_le 3125) h) (fun n i hi k => ?_)
  refine br_f (nI_ge (b := 3125) hi (by decide)) (yp_isContinuous hs ht hi hp hq (zz_br (fun e => nm_r (nI_1 i) ?_) (fun e => ?_)))
  · rw [ps_cnf (P := fun m => ps_ct p q m) e] at k
    exact k
  · exact nm_r ((nI_1 _).trans (congrArg nI (ps_cnt (P := fun m => ps_ct p q m) e).symm)) (nm_r (nI_1 i) k)
theorem yp_same {post : Int32 → Prop} {s t : Nat} {p q : Nat → Bool} (hs : s < 3) (ht : t < 3) (hp : F s = ps_fm p) (hq : F t = ps_fm q) (h : post (nI (ps_cn 3125 (fun m => decide (ps_tk m 31 = 31) && (ps_ct p q m && ps_bk p q m))))) : wpY_same post (F, ma, tr) (nI s) (nI t) := by
  unfold wpY_same
  refine yp_sp1 hs (br_f zz_10 (yp_sp1 ht (br_f zz_10 ?_)))
  refine ps_lq (fun n a i => wY_same_23 post (nI s) (nI t) F ma tr n a i) (fun i => nI (ps_cn i (fun m => decide (ps_tk m 31 = 31) && (ps_ct p q m && ps_bk p q m)))) 3125 rfl (fun n => br_t (zz_le 3125) h) (fun n i hi k => ?_)
  have lt := ps_tk_lt i 31
  have N : (decide (ps_tk i 31 = 31) && (ps_ct p q i && ps_bk p q i)) = false → ∀ y : Int32, y = nI i + 1 → wY_same_23 post (nI s) (nI t) F ma tr n (nI (ps_cn i (fun m => decide (ps_tk m 31 = 31) && (ps_ct p q m && ps_bk p q m)))) y := fun z => by
    refine nm_r (nI_1 i) ?_
    rw [ps_cnf (P := fun m => decide (ps_tk m 31 = 31) && (ps_ct p q m && ps_bk p q m)) z] at k
    exact k
  refine br_f (nI_ge (b := 3125) hi (by decide)) (yp_taken (v := 31) hi (by decide) (ps_eqN (b := 31) (by omega) (by decide) (fun e => yp_isContinuous hs ht hi hp hq (zz_br (fun e1 => N (by rw [e, e1]; rfl)) (fun e1 => yp_isBack hs ht hi hp hq (zz_br (fun e2 => N (by rw [e, e1, e2]; rfl)) (fun e2 => ?_))))) (fun e => N (by rw [e]; rfl))))
  exact nm_r ((nI_1 _).trans (congrArg nI (ps_cnt (P := fun m => decide (ps_tk m 31 = 31) && (ps_ct p q m && ps_bk p q m)) (by rw [e, e1, e2]; rfl)).symm)) (nm_r (nI_1 i) k)
end
theorem i_vc_maps {k : Nat} {u : SX} {v : SY} (I : i_Rel k u v) (hk : k + 4 ≤ 2048) (v1 : Int32) (v2 : Int32) : wpX_maps (fun r u' => wpY_maps (fun r' => r' = r ∧ i_Rel (k + 4) u' v) v v1 v2) u v1 v2 := by
  obtain ⟨L, im, re⟩ := u
  obtain ⟨F, ma, tr⟩ := v
  obtain ⟨R, hR⟩ := I
  have hR : ps_Rl L F R := hR
  rcases ps_cs 3 (by decide) v1 with b | ⟨s, hs, rfl⟩
  · unfold wpX_maps wpY_maps
    exact xp_sp0 b (br_t rfl (yp_sp0 b (br_t rfl ⟨rfl, R, hR⟩)))
  · rcases ps_cs 3 (by decide) v2 with b | ⟨t, ht, rfl⟩
    · unfold wpX_maps wpY_maps
      exact xp_sp1 hs (br_f zz_10 (xp_sp0 b (br_t rfl (yp_sp1 hs (br_f zz_10 (yp_sp0 b (br_t rfl ⟨rfl, R, hR⟩)))))))
    · unfold wpX_maps
      refine xp_sp1 hs (br_f zz_10 (xp_sp1 ht (br_f zz_10 (xp_countMaps (Q := ps_q0 (R s) (R t)) (fun post x im A B hx hA h => br_t rfl (xp_choices hs ht hx (hR s hs).2.1 (hR t ht).2.1 hA h)) (ps_q0_cg _ _) (fun _ _ => rfl) (fun A' B' => ?_)))))
      refine yp_maps hs ht (hR s hs).2.2 (hR t ht).2.2 ⟨congrArg nI (ps_cn_cg fun m hm => ?_), R, hR⟩
      exact (ps_maps (hR t ht).1 m).symm
theorem i_vc_same {k : Nat} {u : SX} {v : SY} (I : i_Rel k u v) (hk : k + 4 ≤ 2048) (v1 : Int32) (v2 : Int32) : wpX_same (fun r u' => wpY_same (fun r' => r' = r ∧ i_Rel (k + 4) u' v) v v1 v2) u v1 v2 := by
  obtain ⟨L, im, re⟩ := u
  obtain ⟨F, ma, tr⟩ := v
  obtain ⟨R, hR⟩ := I
  have hR : ps_Rl L F R := hR
  rcases ps_cs 3 (by decide) v1 with b | ⟨s, hs, rfl⟩
  · unfold wpX_same wpY_same
    exact xp_sp0 b (br_t rfl (yp_sp0 b (br_t rfl ⟨rfl, R, hR⟩)))
  · rcases ps_cs 3 (by decide) v2 with b | ⟨t, ht, rfl⟩
    · unfold wpX_same wpY_same
      exact xp_sp1 hs (br_f zz_10 (xp_sp0 b (br_t rfl (yp_sp1 hs (br_f zz_10 (yp_sp0 b (br_t rfl ⟨rfl, R, hR⟩)))))))
    · unfold wpX_same
      refine xp_sp1 hs (br_f zz_10 (xp_sp1 ht (br_f zz_10 (xp_countMaps (Q := ps_q1 (R s) (R t)) (fun post x im A B hx hA h => br_f zz_10 (xp_sameChoices hs ht hx (hR s hs).2.1 (hR t ht).2.1 hA h)) (ps_q1_cg _ _) (fun _ _ => rfl) (fun A' B' => ?_)))))
      refine yp_same hs ht (hR s hs).2.2 (hR t ht).2.2 ⟨congrArg nI (ps_cn_cg fun m hm => ?_), R, hR⟩
      exact (ps_same (hR s hs).1 (hR t ht).1 hm).symm
end
section
/-! needed: pure part -/
/-- sums, binomials -/
def ps_sm : Nat → (Nat → Nat) → Nat
  | 0, _ => 0
  | n + 1, f => ps_sm n f + f n
def ps_ch : Nat → Nat → Nat
  | 0, _ => 1
  | _ + 1, 0 => 0
  | m + 1, a + 1 => ps_ch m a + ps_ch (m + 1) a
theorem ps_sm_cg {f g : Nat → Nat} : ∀ {n : Nat}, (∀ i, i < n → f i = g i) → ps_sm n f = ps_sm n g := by
  intro n
  induction n with
  | zero => intro _; rfl
  | succ n ih =>
    intro h
    show ps_sm n f + f n = ps_sm n g + g n
    rw [ih (fun i hi => h i (by omega)), h n (by omega)]
theorem ps_sm_add (f : Nat → Nat) (k : Nat) : ∀ n, ps_sm (k + n) f = ps_sm k f + ps_sm n (fun i => f (k + i)) := by
  intro n
  induction n with
  | zero => rfl
  | succ n ih =>
    show ps_sm (k + n) f + f (k + n) = ps_sm k f + (ps_sm n (fun i => f (k + i)) + f (k + n))
    rw [ih]; omega
theorem ps_sm_1 (f : Nat → Nat) (n : Nat) : ps_sm (n + 1) f = f 0 + ps_sm n (fun i => f (i + 1)) := by
  rw [Nat.add_comm n 1, ps_sm_add f 1 n]
  have e : ps_sm 1 f = f 0 := Nat.zero_add _
  rw [e]
  refine congrArg _ (ps_sm_cg fun i _ => ?_)
  rw [Nat.add_comm]
theorem ps_hock : ∀ n a, n ≤ a → ps_sm n (fun i => ps_ch (n - i) (a - 1 - i)) + 1 = ps_ch n a := by
  intro n
  induction n with
  | zero => intro a _; exact (by cases a <;> rfl)
  | succ n ih =>
    intro a ha
    obtain ⟨b, rfl⟩ : ∃ b, a = b + 1 := ⟨a - 1, by omega⟩
    rw [ps_sm_1]
    have e : ps_sm n (fun i => ps_ch (n + 1 - (i + 1)) (b + 1 - 1 - (i + 1))) = ps_sm n (fun i => ps_ch (n - i) (b - 1 - i)) := ps_sm_cg fun i _ => by
      rw [show n + 1 - (i + 1) = n - i by omega, show b + 1 - 1 - (i + 1) = b - 1 - i by omega]
    rw [e]
    have k := ih b (by omega)
    show ps_ch (n + 1) b + _ + 1 = ps_ch n b + ps_ch (n + 1) b
    omega
/-- rows of numbers in rising order -/
def ps_Row (q : Nat) (w : Nat → Nat) : Prop := (∀ j, j + 1 < q → w j < w (j + 1)) ∧ (∀ j, j < q → w j < 32)
theorem ps_Row_d {q : Nat} {w : Nat → Nat} (h : ps_Row q w) : ∀ d i, i + d < q → w i + d ≤ w (i + d) := by
  intro d
  induction d with
  | zero => intro i _; exact Nat.le_refl _
  | succ d ih =>
    intro i hi
    have a := ih i (by omega)
    have b := h.1 (i + d) (by omega)
    show w i + (d + 1) ≤ w (i + d + 1)
    omega
theorem ps_Row_lt {q : Nat} {w : Nat → Nat} (h : ps_Row q w) {i j : Nat} (hij : i < j) (hj : j < q) : w i < w j := by
  have k := ps_Row_d h (j - i) i (by omega)
  rw [show i + (j - i) = j by omega] at k
  omega
theorem ps_Row_hi {q : Nat} {w : Nat → Nat} (h : ps_Row q w) {j : Nat} (hj : j < q) : w j + q ≤ 32 + j := by
  have k := ps_Row_d h (q - 1 - j) j (by omega)
  have b := h.2 (j + (q - 1 - j)) (by omega)
  omega
theorem ps_Row_lo {q : Nat} {w : Nat → Nat} (h : ps_Row q w) {j : Nat} (hj : j < q) : j ≤ w j := by
  have k := ps_Row_d h j 0 (by omega)
  rw [Nat.zero_add] at k
  omega
def ps_nx (w : Nat → Nat) (k : Nat) : Nat → Nat := fun j => if j < k then w j else w k + 1 + (j - k)
def ps_M (q : Nat) (w : Nat → Nat) : Nat := ps_sm q (fun j => ps_ch (q - j) (31 - w j))
theorem ps_M_nx {q k : Nat} {w : Nat → Nat} (hk : k < q) (hq : q ≤ 32) (h : w k + q < 32 + k) : ps_M q (ps_nx w k) + 1 ≤ ps_M q w := by
  obtain ⟨n, rfl⟩ : ∃ n, q = k + (n + 1) := ⟨q - k - 1, by omega⟩
  unfold ps_M
  rw [ps_sm_add _ k (n + 1), ps_sm_add _ k (n + 1)]
  have e1 : ps_sm k (fun j => ps_ch (k + (n + 1) - j) (31 - ps_nx w k j)) = ps_sm k (fun j => ps_ch (k + (n + 1) - j) (31 - w j)) := ps_sm_cg fun i hi => by
    unfold ps_nx
    rw [if_pos hi]
  have e2 : ps_sm (n + 1) (fun i => ps_ch (k + (n + 1) - (k + i)) (31 - ps_nx w k (k + i))) = ps_sm (n + 1) (fun i => ps_ch (n + 1 - i) (31 - w k - 1 - i)) := ps_sm_cg fun i hi => by
    unfold ps_nx
    rw [if_neg (by omega), show k + (n + 1) - (k + i) = n + 1 - i by omega, show 31 - (w k + 1 + (k + i - k)) = 31 - w k - 1 - i by omega]
  have e3 := ps_hock (n + 1) (31 - w k) (by omega)
  have e4 : ps_sm (n + 1) (fun i => ps_ch (k + (n + 1) - (k + i)) (31 - w (k + i))) = ps_ch (n + 1) (31 - w k) + ps_sm n (fun i => ps_ch (k + (n + 1) - (k + (i + 1))) (31 - w (k + (i + 1)))) := by
    rw [ps_sm_1]
    have z : k + (n + 1) - (k + 0) = n + 1 := by omega
    rw [z]
    rfl
  rw [e1, e2, e4]
  omega
theorem ps_nx_Row {q k : Nat} {w : Nat → Nat} (hw : ps_Row q w) (hk : k < q) (h : w k + q < 32 + k) : ps_Row q (ps_nx w k) := by
  constructor
  · intro j hj
    unfold ps_nx
    by_cases a : j + 1 < k
    · rw [if_pos a, if_pos (by omega)]; exact hw.1 j hj
    · rw [if_neg a]
      by_cases b : j < k
      · have e : j + 1 = k := by omega
        rw [if_pos b, ← e]
        have := hw.1 j hj
        omega
      · rw [if_neg b]; omega
  · intro j hj
    unfold ps_nx
    by_cases b : j < k
    · rw [if_pos b]; exact hw.2 j hj
    · rw [if_neg b]; omega
/-- a row is not before another -/
def ps_GE (q : Nat) (a b : Nat → Nat) : Prop := (∀ j, j < q → a j = b j) ∨ ∃ j, j < q ∧ (∀ i, i < j → a i = b i) ∧ b j < a j
theorem ps_GE_pw {q : Nat} {a b : Nat → Nat} (h : ∀ j, j < q → b j ≤ a j) : ps_GE q a b := by
  by_cases e : ∃ j, j < q ∧ a j ≠ b j
  · obtain ⟨j, ⟨hj, hne⟩, hl⟩ := pk_least (fun j => j < q ∧ a j ≠ b j) e
    refine Or.inr ⟨j, hj, fun i hi => ?_, ?_⟩
    · apply Classical.byContradiction
      intro c
      exact hl i hi ⟨by omega, c⟩
    · have := h j hj
      omega
  · left
    intro j hj
    apply Classical.byContradiction
    intro c
    exact e ⟨j, hj, c⟩
theorem ps_GE_nx {q k : Nat} {a w : Nat → Nat} (ha : ps_Row q a) (hk : k < q) (hm : ∀ j, k < j → j < q → w j + q = 32 + j) (hne : ¬ ∀ j, j < q → a j = w j) (h : ps_GE q a w) : ps_GE q a (ps_nx w k) := by
  rcases h with h | ⟨j, hj, hp, hl⟩
  · exact absurd h hne
  · rcases Nat.lt_trichotomy j k with c | c | c
    · refine Or.inr ⟨j, hj, fun i hi => ?_, ?_⟩
      · unfold ps_nx; rw [if_pos (by omega)]; exact hp i hi
      · unfold ps_nx; rw [if_pos c]; exact hl
    · subst c
      refine ps_GE_pw (fun i hi => ?_)
      unfold ps_nx
      by_cases b : i < j
      · rw [if_pos b, hp i b]; exact Nat.le_refl _
      · rw [if_neg b]
        have k := ps_Row_d ha (i - j) j (by omega)
        rw [show j + (i - j) = i by omega] at k
        omega
    · have e := hm j c hj
      have u := ps_Row_hi ha hj
      omega
theorem ps_GE_end {q : Nat} {a w : Nat → Nat} (ha : ps_Row q a) (hm : ∀ j, j < q → w j + q = 32 + j) (h : ps_GE q a w) : ∀ j, j < q → a j = w j := by
  rcases h with h | ⟨j, hj, hp, hl⟩
  · exact h
  · have e := hm j hj
    have u := ps_Row_hi ha hj
    omega
/-- what the sets of a row make -/
def ps_gn (w : Nat → Nat) : Nat → Nat → Nat → Bool
  | 0 => ps_rp
  | k + 1 => ps_ad (ps_gn w k) (w k)
def ps_gd (R : Nat → Nat → Bool) (q : Nat) (w : Nat → Nat) : Bool := ps_al q (fun j => ps_OP R (w j)) && ps_al 5 (fun x => decide (ps_ms (ps_gn w q x) = ps_ms (R x)))
theorem ps_gn_iff {w : Nat → Nat} {x y : Nat} : ∀ k, ps_gn w k x y = true ↔ ∀ j, j < k → (w j).testBit x = true → (w j).testBit y = true := by
  intro k
  induction k with
  | zero => exact ⟨fun _ j hj => absurd hj (Nat.not_lt_zero j), fun _ => rfl⟩
  | succ k ih =>
    show ps_ad (ps_gn w k) (w k) x y = true ↔ _
    rw [ps_ad_iff, ih]
    constructor
    · rintro ⟨a, b⟩ j hj
      rcases Nat.lt_or_ge j k with c | c
      · exact a j c
      · have e : j = k := by omega
        rw [e]; exact b
    · intro h
      exact ⟨fun j hj => h j (by omega), h k (by omega)⟩
theorem ps_gn_cg {w w' : Nat → Nat} : ∀ k, (∀ j, j < k → w j = w' j) → ps_gn w k = ps_gn w' k := by
  intro k
  induction k with
  | zero => intro _; rfl
  | succ k ih =>
    intro h
    show ps_ad (ps_gn w k) (w k) = ps_ad (ps_gn w' k) (w' k)
    rw [ih (fun j hj => h j (by omega)), h k (by omega)]
theorem ps_gd_cg {R : Nat → Nat → Bool} {q : Nat} {w w' : Nat → Nat} (h : ∀ j, j < q → w j = w' j) : ps_gd R q w = ps_gd R q w' := by
  unfold ps_gd
  rw [ps_gn_cg q h]
  refine congrArg (fun b => b && _) (ps_al_cg fun j hj => ?_)
  rw [h j hj]
theorem ps_gd_iff {R : Nat → Nat → Bool} {q : Nat} {w : Nat → Nat} : ps_gd R q w = true ↔ (∀ j, j < q → ps_OP R (w j) = true) ∧ ∀ x, x < 5 → ∀ y, y < 5 → (R x y = true ↔ ∀ j, j < q → (w j).testBit x = true → (w j).testBit y = true) := by
  unfold ps_gd
  rw [zz_and, ps_al_iff, ps_al_iff]
  constructor
  · rintro ⟨a, b⟩
    refine ⟨a, fun x hx y hy => ?_⟩
    rw [← ps_gn_iff q, ps_ms_inj (of_decide_eq_true (b x hx)) y hy]
  · rintro ⟨a, b⟩
    refine ⟨a, fun x hx => decide_eq_true (ps_ms_cg fun y hy => zz_bq ?_)⟩
    rw [ps_gn_iff q, b x hx y hy]
/-- lists of sets that make a space -/
def ps_PL (R : Nat → Nat → Bool) (q lo hi : Nat) : Prop := ∃ l : List Nat, l.length = q ∧ l.Pairwise (fun a b => a < b) ∧ (∀ v, v ∈ l → lo ≤ v ∧ v ≤ hi ∧ ps_OP R v = true) ∧ (∀ x, x < 5 → ∀ y, y < 5 → (R x y = true ↔ ∀ v, v ∈ l → v.testBit x = true → v.testBit y = true))
def ps_PX (R : Nat → Nat → Bool) (q : Nat) : Prop := ∃ w, ps_Row q w ∧ ps_gd R q w = true
theorem ps_PX_PL {R : Nat → Nat → Bool} {q : Nat} (h : ps_PX R q) : ps_PL R q 0 31 := by
  obtain ⟨w, hw, hg⟩ := h
  rw [ps_gd_iff] at hg
  have M : ∀ v, v ∈ (List.range q).map w ↔ ∃ j, j < q ∧ w j = v := fun v => by
    rw [List.mem_map]
    exact ⟨fun ⟨j, hj, e⟩ => ⟨j, List.mem_range.mp hj, e⟩, fun ⟨j, hj, e⟩ => ⟨j, List.mem_range.mpr hj, e⟩⟩
  refine ⟨(List.range q).map w, by rw [List.length_map, List.length_range], ?_, fun v hv => ?_, fun x hx y hy => ?_⟩
  · rw [List.pairwise_iff_getElem]
    intro i j hi hj hij
    rw [List.getElem_map, List.getElem_map, List.getElem_range, List.getElem_range]
    rw [List.length_map, List.length_range] at hj
    exact ps_Row_lt hw hij hj
  · obtain ⟨j, hj, rfl⟩ := (M v).mp hv
    have := hw.2 j hj
    exact ⟨Nat.zero_le _, by omega, hg.1 j hj⟩
  · rw [hg.2 x hx y hy]
    constructor
    · intro h v hv
      obtain ⟨j, hj, rfl⟩ := (M v).mp hv
      exact h j hj
    · intro h j hj
      exact h (w j) ((M _).mpr ⟨j, hj, rfl⟩)
theorem ps_PL_PX {R : Nat → Nat → Bool} {q : Nat} (h : ps_PL R q 0 31) : ps_PX R q := by
  obtain ⟨l, rfl, hp, hm, hr⟩ := h
  have G : ∀ j, j < l.length → l.getD j 0 ∈ l := fun j hj => by
    rw [← List.getElem_eq_getD (h := hj)]
    exact List.getElem_mem hj
  refine ⟨fun j => l.getD j 0, ⟨fun j hj => ?_, fun j hj => ?_⟩, ps_gd_iff.mpr ⟨fun j hj => (hm _ (G j hj)).2.2, fun x hx y hy => ?_⟩⟩
  · show l.getD j 0 < l.getD (j + 1) 0
    rw [← List.getElem_eq_getD (h := (by omega : j < l.length)), ← List.getElem_eq_getD (h := hj)]
    exact List.pairwise_iff_getElem.mp hp j (j + 1) (by omega) hj (by omega)
  · have := hm _ (G j hj)
    show l.getD j 0 < 32
    omega
  · rw [hr x hx y hy]
    constructor
    · intro h j hj
      exact h _ (G j hj)
    · intro h v hv
      obtain ⟨j, hj, rfl⟩ := List.mem_iff_getElem.mp hv
      have k := h j hj
      rw [← List.getElem_eq_getD (h := hj)] at k
      exact k
theorem ps_PL_in {R : Nat → Nat → Bool} {q : Nat} (h : ps_PL R q 0 31) : ∃ q', q' ≤ q ∧ ps_PL R q' 1 30 := by
  obtain ⟨l, rfl, hp, hm, hr⟩ := h
  refine ⟨(l.filter (fun v => decide (1 ≤ v ∧ v ≤ 30))).length, List.length_filter_le _ _, _, rfl, hp.filter _, fun v hv => ?_, fun x hx y hy => ?_⟩
  · rw [List.mem_filter, decide_eq_true_eq] at hv
    exact ⟨hv.2.1, hv.2.2, (hm v hv.1).2.2⟩
  · rw [hr x hx y hy]
    constructor
    · intro h v hv
      exact h v (List.mem_filter.mp hv).1
    · intro h v hv b
      by_cases c : 1 ≤ v ∧ v ≤ 30
      · exact h v (List.mem_filter.mpr ⟨hv, decide_eq_true c⟩) b
      · have k := hm v hv
        rcases (show v = 0 ∨ v = 31 by omega) with e | e
        · rw [e, ps_00] at b; exact absurd b (by decide)
        · rw [e]; exact ps_31 y hy
theorem ps_PL_wk {R : Nat → Nat → Bool} {q : Nat} (h : ps_PL R q 1 30) : ps_PL R q 0 31 := by
  obtain ⟨l, e, hp, hm, hr⟩ := h
  refine ⟨l, e, hp, fun v hv => ?_, hr⟩
  have k := hm v hv
  exact ⟨by omega, by omega, k.2.2⟩
/-! five sets suffice -/
theorem ps_cn_or (p q : Nat → Bool) : ∀ n, ps_cn n (fun i => p i || q i) ≤ ps_cn n p + ps_cn n q := by
  intro n
  induction n with
  | zero => exact Nat.le_refl 0
  | succ n ih =>
    show ps_cn n (fun i => p i || q i) + (if (p n || q n) then 1 else 0) ≤ (ps_cn n p + (if p n then 1 else 0)) + (ps_cn n q + (if q n then 1 else 0))
    cases p n <;> cases q n <;> simp <;> omega
theorem ps_cn_one (a : Nat) : ∀ n, ps_cn n (fun v => decide (v = a)) ≤ if a < n then 1 else 0 := by
  intro n
  induction n with
  | zero => exact Nat.zero_le _
  | succ n ih =>
    by_cases e : n = a
    · rw [ps_cnt (P := fun v => decide (v = a)) (decide_eq_true e)]
      rw [if_neg (by omega)] at ih
      rw [if_pos (by omega)]
      omega
    · rw [ps_cnf (P := fun v => decide (v = a)) (decide_eq_false e)]
      by_cases c : a < n
      · rw [if_pos c] at ih
        rw [if_pos (by omega)]
        exact ih
      · rw [if_neg c] at ih
        omega
theorem ps_cn_ex (f : Nat → Nat) (n : Nat) : ∀ k, ps_cn n (fun v => ps_ex k (fun x => decide (v = f x))) ≤ k := by
  intro k
  induction k with
  | zero =>
    have e := ps_cn_0 n
    exact Nat.le_of_eq e
  | succ k ih =>
    have a := ps_cn_or (fun v => ps_ex k (fun x => decide (v = f x))) (fun v => decide (v = f k)) n
    have b := ps_cn_one (f k) n
    have c : (if f k < n then 1 else 0) ≤ 1 := by split <;> omega
    have e : ps_cn n (fun v => ps_ex (k + 1) (fun x => decide (v = f x))) = ps_cn n (fun v => ps_ex k (fun x => decide (v = f x)) || decide (v = f k)) := rfl
    omega
theorem ps_cn_len (p : Nat → Bool) : ∀ n, ((List.range n).filter p).length = ps_cn n p := by
  intro n
  induction n with
  | zero => rfl
  | succ n ih =>
    rw [List.range_succ, List.filter_append, List.length_append, ih]
    cases e : p n
    · rw [ps_cnf e]; simp [e]
    · rw [ps_cnt e]; simp [e]
theorem ps_cn_mono {p q : Nat → Bool} (h : ∀ i, p i = true → q i = true) : ∀ n, ps_cn n p ≤ ps_cn n q := by
  intro n
  induction n with
  | zero => exact Nat.le_refl 0
  | succ n ih =>
    show ps_cn n p + (if p n then 1 else 0) ≤ ps_cn n q + (if q n then 1 else 0)
    cases e : p n
    · simp; omega
    · rw [h n e]; simp; omega
theorem ps_PL_5 {R : Nat → Nat → Bool} (hR : ps_Pre R) : ∃ q, q ≤ 5 ∧ ps_PL R q 1 30 := by
  refine ⟨((List.range 31).filter (fun v => decide (1 ≤ v) && ps_ex 5 (fun x => decide (v = ps_ms (R x))))).length, ?_, _, rfl, List.pairwise_lt_range.filter _, fun v hv => ?_, fun x hx y hy => ?_⟩
  · rw [ps_cn_len]
    exact Nat.le_trans (ps_cn_mono (fun i hi => (zz_and.mp hi).2) 31) (ps_cn_ex (fun x => ps_ms (R x)) 31 5)
  · rw [List.mem_filter, List.mem_range, zz_and, decide_eq_true_eq, ps_ex_iff] at hv
    obtain ⟨h1, h2, x, hx, e⟩ := hv
    rw [decide_eq_true_eq] at e
    exact ⟨h2, by omega, by rw [e]; exact ps_up hR hx⟩
  · constructor
    · intro r v hv b
      rw [List.mem_filter, zz_and, ps_ex_iff] at hv
      obtain ⟨h1, h2, z, hz, e⟩ := hv
      rw [decide_eq_true_eq] at e
      rw [e] at b ⊢
      exact ps_OP_iff.mp (ps_up hR hz) x hx b y hy r
    · intro h
      have bx : (ps_ms (R x)).testBit x = true := by rw [ps_ms_tb _ x hx]; exact hR.1 x hx
      have lt := ps_ms_lt (R x)
      have nz : 1 ≤ ps_ms (R x) := by
        rcases Nat.eq_zero_or_pos (ps_ms (R x)) with z | z
        · rw [z, ps_00] at bx; exact absurd bx (by decide)
        · exact z
      rw [← ps_ms_tb (R x) y hy]
      by_cases c : ps_ms (R x) < 31
      · refine h _ ?_ bx
        rw [List.mem_filter, List.mem_range, zz_and, decide_eq_true_eq, ps_ex_iff]
        exact ⟨c, nz, x, hx, decide_eq_true rfl⟩
      · rw [show ps_ms (R x) = 31 by omega]
        exact ps_31 y hy
/-! Y's search -/
def ps_sy (R : Nat → Nat → Bool) : Nat → Nat → (Nat → Nat → Bool) → Prop
  | 0, _, G => ∀ v, v < 32 → ps_OP G v = ps_OP R v
  | m + 1, c, G => ∃ v, c < v ∧ v ≤ 30 ∧ ps_OP R v = true ∧ ps_sy R m v (ps_ad G v)
theorem ps_fl_Pre {G : Nat → Nat → Bool} (hG : ps_Pre G) : ∀ l : List Nat, ps_Pre (l.foldl ps_ad G) := by
  intro l
  induction l generalizing G with
  | nil => exact hG
  | cons v l ih => exact ih (ps_ad_Pre hG v)
theorem ps_fl_iff {x y : Nat} : ∀ (l : List Nat) (G : Nat → Nat → Bool), l.foldl ps_ad G x y = true ↔ G x y = true ∧ ∀ v, v ∈ l → v.testBit x = true → v.testBit y = true := by
  intro l
  induction l with
  | nil => intro G; exact ⟨fun h => ⟨h, fun v hv => absurd hv (List.not_mem_nil)⟩, fun h => h.1⟩
  | cons a l ih =>
    intro G
    show (l.foldl ps_ad (ps_ad G a)) x y = true ↔ _
    rw [ih, ps_ad_iff]
    constructor
    · rintro ⟨⟨h1, h2⟩, h3⟩
      refine ⟨h1, fun v hv => ?_⟩
      rcases List.mem_cons.mp hv with e | e
      · rw [e]; exact h2
      · exact h3 v e
    · rintro ⟨h1, h2⟩
      exact ⟨⟨h1, h2 a (List.mem_cons.mpr (Or.inl rfl))⟩, fun v hv => h2 v (List.mem_cons.mpr (Or.inr hv))⟩
theorem ps_sy_iff {R : Nat → Nat → Bool} : ∀ m c G, ps_sy R m c G ↔ ∃ l : List Nat, l.length = m ∧ l.Pairwise (fun a b => a < b) ∧ (∀ v, v ∈ l → c < v ∧ v ≤ 30 ∧ ps_OP R v = true) ∧ ∀ v, v < 32 → ps_OP (l.foldl ps_ad G) v = ps_OP R v := by
  intro m
  induction m with
  | zero =>
    intro c G
    constructor
    · intro h
      exact ⟨[], rfl, List.Pairwise.nil, fun v hv => absurd hv (List.not_mem_nil), h⟩
    · rintro ⟨l, e, _, _, h⟩
      have e := List.eq_nil_of_length_eq_zero e
      rw [e] at h
      exact h
  | succ m ih =>
    intro c G
    constructor
    · rintro ⟨v, h1, h2, h3, h4⟩
      obtain ⟨l, e, hp, hm, hg⟩ := (ih v (ps_ad G v)).mp h4
      refine ⟨v :: l, by rw [List.length_cons, e], List.pairwise_cons.mpr ⟨fun a ha => (hm a ha).1, hp⟩, fun a ha => ?_, hg⟩
      rcases List.mem_cons.mp ha with q | q
      · rw [q]; exact ⟨h1, h2, h3⟩
      · have k := hm a q
        exact ⟨by omega, k.2⟩
    · rintro ⟨l, e, hp, hm, hg⟩
      cases l with
      | nil => exact absurd e (by simp)
      | cons v l =>
        have k := hm v (List.mem_cons.mpr (Or.inl rfl))
        have hp := List.pairwise_cons.mp hp
        refine ⟨v, k.1, k.2.1, k.2.2, (ih v (ps_ad G v)).mpr ⟨l, by rw [List.length_cons] at e; omega, hp.2, fun a ha => ?_, hg⟩⟩
        have q := hm a (List.mem_cons.mpr (Or.inr ha))
        exact ⟨hp.1 a ha, q.2⟩
theorem ps_sy_PL {R : Nat → Nat → Bool} (hR : ps_Pre R) (m : Nat) : ps_sy R m 0 ps_rp ↔ ps_PL R m 1 30 := by
  rw [ps_sy_iff]
  constructor
  · rintro ⟨l, e, hp, hm, hg⟩
    refine ⟨l, e, hp, hm, fun x hx y hy => ?_⟩
    rw [← ps_OP_inj (ps_fl_Pre ps_rp_Pre l) hR hg x hx y hy, ps_fl_iff]
    exact ⟨fun h => h.2, fun h => ⟨rfl, h⟩⟩
  · rintro ⟨l, e, hp, hm, hr⟩
    refine ⟨l, e, hp, hm, fun v _ => ps_OP_cg (fun x hx y hy => zz_bq ?_) v⟩
    rw [ps_fl_iff, hr x hx y hy]
    exact ⟨fun h => h.2, fun h => ⟨rfl, h⟩⟩
theorem ps_sy_S {R : Nat → Nat → Bool} {m c : Nat} {G : Nat → Nat → Bool} (hc : c < 30) : ps_sy R (m + 1) c G ↔ (ps_OP R (c + 1) = true ∧ ps_sy R m (c + 1) (ps_ad G (c + 1))) ∨ ps_sy R (m + 1) (c + 1) G := by
  constructor
  · rintro ⟨v, h1, h2, h3, h4⟩
    by_cases e : v = c + 1
    · subst e; exact Or.inl ⟨h3, h4⟩
    · exact Or.inr ⟨v, by omega, h2, h3, h4⟩
  · rintro (⟨h1, h2⟩ | ⟨v, h1, h2, h3, h4⟩)
    · exact ⟨c + 1, by omega, by omega, h1, h2⟩
    · exact ⟨v, by omega, h2, h3, h4⟩
/-- the least number of sets -/
theorem ps_least {R : Nat → Nat → Bool} (hR : ps_Pre R) : ∃ m, m ≤ 5 ∧ ps_sy R m 0 ps_rp ∧ (∀ j, j < m → ¬ ps_sy R j 0 ps_rp) ∧ ps_PX R m ∧ (∀ j, j < m → ¬ ps_PX R j) := by
  obtain ⟨q, hq, h⟩ := ps_PL_5 hR
  obtain ⟨m, hm, hl⟩ := pk_least (fun m => ps_sy R m 0 ps_rp) ⟨q, (ps_sy_PL hR q).mpr h⟩
  have le : m ≤ q := by
    rcases Nat.lt_or_ge q m with c | c
    · exact absurd ((ps_sy_PL hR q).mpr h) (hl q c)
    · exact c
  refine ⟨m, by omega, hm, hl, ps_PL_PX (ps_PL_wk ((ps_sy_PL hR m).mp hm)), fun j hj hx => ?_⟩
  obtain ⟨j', hj', h'⟩ := ps_PL_in (ps_PX_PL hx)
  exact hl j' (by omega) ((ps_sy_PL hR j').mpr h')
end
section
/-! needed: X's walk -/
theorem ps_lqr {α : Type} (W : Nat → α → Int32 → Prop) (g : Nat → α) (e i0 : Nat) (hi : i0 ≤ e) {a0 : α} (e0 : g i0 = a0) (h0 : ∀ n, W (n + 1) (g e) (nI e)) (hs : ∀ n i, i0 ≤ i → i < e → W n (g (i + 1)) (nI (i + 1)) → W (n + 1) (g i) (nI i)) : ∃ n, W n a0 (nI i0) := by
  rw [← e0]
  have H : ∀ d i, i0 ≤ i → i + d = e → W (d + 1) (g i) (nI i) := by
    intro d
    induction d with
    | zero =>
      intro i _ hi
      have k : i = e := hi
      rw [k]; exact h0 0
    | succ d ih => intro i l hi; exact hs _ i l (by omega) (ih (i + 1) (by omega) (by omega))
  exact ⟨e - i0 + 1, H (e - i0) i0 (Nat.le_refl _) (by omega)⟩
section
variable {L A B : Nat → Int32}
theorem xp_spareIs {post : Int32 → Prop} {s : Nat} {R G : Nat → Nat → Bool} (hs : s < 3) (hL : ps_S L s R) (hG : ps_S L 3 G) (h : post (zz_b (ps_al 5 (fun x => decide (ps_ms (G x) = ps_ms (R x)))))) : wpX_spareIs post (L, A, B) (nI s) := by
  unfold wpX_spareIs
  refine ps_lex (fun n x => wX_spareIs_2 post (nI s) L A B n x) post (fun x => decide (ps_ms (G x) = ps_ms (R x))) 5 (fun hp n => br_t (zz_le 5) hp) (fun n i hi ht hf => ?_) h
  have l1 := ps_ms_lt (G i)
  have l2 := ps_ms_lt (R i)
  exact br_f (nI_ge (b := 5) hi (by decide)) (xp_ab (s := 3) (by omega) hi (hG i hi) (xp_ab (by omega) hi (hL i hi) (ps_eqN (by omega) (by omega) (fun e => nm_r (nI_1 i) (ht e)) hf)))
theorem xp_cm69 {post : Int32 → SX → Prop} {J : Int32 → Int32 → (Nat → Int32) → (Nat → Int32) → (Nat → Int32) → Prop} {s q st : Nat} {R : Nat → Nat → Bool} {w : Nat → Nat} (hs : s < 3) (hq : q ≤ 4) (hL : ps_S L s R) (hA : ∀ j, j < q → A j = nI (w j) ∧ w j < 32) (h1 : ps_gd R q w = true → post 1 (ps_nl L 3 (ps_gn w q), A, B)) (h0 : ps_gd R q w = false → wX_canMake_135 post J (nI s) (nI q) (nI st) (ps_nl L 3 (ps_gn w q)) A B) : ∃ n, wX_canMake_69 post J (nI s) (nI q) (nI st) n 1 0 (ps_nl L 3 ps_rp) A B := by
  refine ps_lq (fun n (b : Int32 × (Nat → Int32)) i => wX_canMake_69 post J (nI s) (nI q) (nI st) n b.1 i b.2 A B) (fun i => (zz_b (ps_al i (fun j => ps_OP R (w j))), ps_nl L 3 (ps_gn w i))) q (a0 := (1, ps_nl L 3 ps_rp)) rfl (fun n => ?_) (fun n i hi k => ?_)
  · refine br_t (zz_le q) (zz_br (fun e => h0 (by unfold ps_gd; rw [e]; rfl)) (fun e => xp_spareIs hs (ps_S_no (by omega) hL) (ps_S_nl L 3 _) (zz_br (fun e1 => h0 ?_) (fun e1 => h1 ?_))))
    · unfold ps_gd; rw [e, e1]; rfl
    · unfold ps_gd; rw [e, e1]; rfl
  · obtain ⟨ei, li⟩ := hA i hi
    have cA : A (nI i).toNatClampNeg = nI (w i) := by rw [nI_clamp (by omega), ei]
    have iv : vp_in (nI i) 5 := vp_in_nI (by omega) (by decide)
    have C : ∀ b : Bool, ps_al (i + 1) (fun j => ps_OP R (w j)) = b → wX_canMake_100 post J (wX_canMake_69 post J (nI s) (nI q) (nI st) n) (nI s) (nI q) (nI st) (nI i) (zz_b b) (ps_nl L 3 (ps_gn w i)) A B := by
      intro b hb
      unfold wX_canMake_100
      rw [cA]
      refine ⟨iv, xp_addOpen (s := 3) (by omega) li (ps_S_nl L 3 (ps_gn w i)) (nm_r (nI_1 i) ?_)⟩
      rw [ps_nl_nl, ← hb]
      exact k
    have S : ps_al (i + 1) (fun j => ps_OP R (w j)) = (ps_al i (fun j => ps_OP R (w j)) && ps_OP R (w i)) := rfl
    refine br_f (nI_ge hi (by omega)) (zz_br (fun e => ?_) (fun e => ⟨iv, ?_⟩))
    · exact C false (by rw [S, e]; rfl)
    · rw [cA]
      refine xp_isOpenSet (by omega) li (ps_S_no (by omega) hL) (zz_br (fun e1 => ?_) (fun e1 => ?_))
      · exact C false (by rw [S, e, e1]; rfl)
      · exact C true (by rw [S, e, e1]; rfl)
theorem xp_cm42 {post : Int32 → SX → Prop} {J : Int32 → Int32 → (Nat → Int32) → (Nat → Int32) → (Nat → Int32) → Prop} {s q st : Nat} {R : Nat → Nat → Bool} {w : Nat → Nat} (hs : s < 3) (hq : q ≤ 4) (hL : ps_S L s R) (hA : ∀ j, j < q → A j = nI (w j) ∧ w j < 32) (h1 : ps_gd R q w = true → post 1 (ps_nl L 3 (ps_gn w q), A, B)) (h0 : ps_gd R q w = false → wX_canMake_135 post J (nI s) (nI q) (nI st) (ps_nl L 3 (ps_gn w q)) A B) : ∃ n, wX_canMake_42 post J (nI s) (nI q) (nI st) 1 n 0 L A B := by
  refine ps_lq (fun n b i => wX_canMake_42 post J (nI s) (nI q) (nI st) 1 n i b A B) (fun i => ps_pu L (5 * 3) i (fun x => nI (ps_ms (ps_rp x)))) 5 (ps_pu0 _ _ _) (fun n => br_t (zz_le 5) (xp_cm69 hs hq hL hA h1 h0)) (fun n i hi k => ?_)
  refine br_f (nI_ge (b := 5) hi (by decide)) ?_
  rw [ps_ix15, nI_clamp (by omega)]
  exact ⟨vp_in_nI (by omega) (by decide), nm_r (ps_puS L (5 * 3) i _ (ps_rp31 i)) (nm_r (nI_1 i) k)⟩
theorem xp_nr37 {post : Int32 → SX → Prop} {q k c : Nat} (hk : k < q) (hq : q ≤ 4) (hc : A k = nI c) (h : post 1 (L, ps_pu A k (q - k) (fun d => nI (c + 1 + d)), B)) : ∃ n, wX_nextRow_37 post (nI q) n (nI (k + 1)) L (upd A k (nI (c + 1))) B := by
  have e0 : ps_pu A k (k + 1 - k) (fun d => nI (c + 1 + d)) = upd A k (nI (c + 1)) := by
    have e := ps_puS A k 0 (fun d => nI (c + 1 + d)) rfl
    rw [ps_pu0, Nat.add_zero] at e
    rw [show k + 1 - k = 0 + 1 by omega, ← e]
  refine ps_lqr (fun n b i => wX_nextRow_37 post (nI q) n i L b B) (fun i => ps_pu A k (i - k) (fun d => nI (c + 1 + d))) q (k + 1) (by omega) e0 (fun n => br_t (zz_le q) h) (fun n i l hi K => ?_)
  obtain ⟨m, rfl⟩ : ∃ m, i = k + (m + 1) := ⟨i - k - 1, by omega⟩
  have r1 : nI (k + (m + 1)) - 1 = nI (k + m) := nI_pred (k + m)
  have g1 : ps_pu A k (k + (m + 1) - k) (fun d => nI (c + 1 + d)) (k + m) = nI (c + 1 + m) := ps_puI A _ (by omega)
  have g2 := ps_puS A k (m + 1) (fun d => nI (c + 1 + d)) (y := nI (c + 1 + m) + 1) (nI_1 _)
  refine br_f (nI_ge hi (by omega)) ?_
  rw [r1, nI_clamp (by omega), nI_clamp (by omega), g1]
  refine ⟨vp_in_nI (by omega) (by decide), vp_in_nI (by omega) (by decide), nm_r (e' := ps_pu A k (k + (m + 1) + 1 - k) (fun d => nI (c + 1 + d))) ?_ (nm_r (nI_1 _) K)⟩
  rw [show k + (m + 1) - k = m + 1 by omega, show k + (m + 1) + 1 - k = m + 1 + 1 by omega]
  exact g2
theorem xp_nextRow {post : Int32 → SX → Prop} {q : Nat} {w : Nat → Nat} (hq : q ≤ 4) (hw : ps_Row q w) (hA : ∀ j, j < q → A j = nI (w j) ∧ w j < 32) (h0 : (∀ j, j < q → w j + q = 32 + j) → post 0 (L, A, B)) (h1 : ∀ k, k < q → w k + q < 32 + k → (∀ j, k < j → j < q → w j + q = 32 + j) → ∀ A', (∀ j, j < q → A' j = nI (ps_nx w k j)) → post 1 (L, A', B)) : wpX_nextRow post (L, A, B) (nI q) := by
  unfold wpX_nextRow
  have e0 : nI q - 1 = nI q + (-1) := by
    rcases Nat.eq_zero_or_pos q with z | z
    · subst z; decide
    · obtain ⟨p, rfl⟩ : ∃ p, q = p + 1 := ⟨q - 1, by omega⟩
      rw [nI_pred, pk_m1]
  refine nm_r e0 ⟨q + 1, ?_⟩
  have H : ∀ k, k ≤ q → (∀ j, k ≤ j → j < q → w j + q = 32 + j) → wX_nextRow_4 post (nI q) L A B (k + 1) (nI k + (-1)) := by
    intro k
    induction k with
    | zero =>
      intro _ hm
      exact br_t (by decide) (h0 (fun j hj => hm j (Nat.zero_le j) hj))
    | succ k ih =>
      intro hk hm
      obtain ⟨ek, lk⟩ := hA k (by omega)
      have cA : A (nI k).toNatClampNeg = nI (w k) := by rw [nI_clamp (by omega), ek]
      have hi := ps_Row_hi hw (show k < q by omega)
      have eb : (32 : Int32) - nI q + nI k = nI (32 - q + k) := by
        rw [show (32 : Int32) - nI q = nI (32 - q) from pk_sub (a := 32) (by omega), nI_add]
      have iv : vp_in (nI k) 5 := vp_in_nI (by omega) (by decide)
      rw [pk_m1]
      refine br_f (nI_pos (by omega)) ⟨iv, ?_⟩
      rw [cA, eb]
      refine pk_le (32 - q + k) (w k) (fun c => nm_e (ih (by omega) (fun j hj1 hj2 => ?_))) (fun c => ⟨iv, iv, nm_e (nm_r (nI_1 k) ?_)⟩)
      · rcases Nat.eq_or_lt_of_le hj1 with e | e
        · subst e; omega
        · exact hm j e hj2
      · rw [nI_clamp (show k < 2 ^ 31 by omega), nI_1]
        refine xp_nr37 (by omega) hq ek (h1 k (by omega) (by omega) (fun j hj1 hj2 => hm j hj1 hj2) _ (fun j hj => ?_))
        unfold ps_nx
        by_cases b : j < k
        · rw [if_pos b, ps_puO A _ (by omega)]; exact (hA j hj).1
        · rw [if_neg b]
          have e := ps_puI A (b := k) (n := q - k) (x := j - k) (fun d => nI (w k + 1 + d)) (by omega)
          rw [show k + (j - k) = j by omega] at e
          exact e
  exact H q (Nat.le_refl q) (fun j h1 h2 => by omega)
theorem xp_cm25 {post : Int32 → SX → Prop} {s q : Nat} {R : Nat → Nat → Bool} {L0 : Nat → Int32} (hs : s < 3) (hq : q ≤ 4) (hL0 : ps_S L0 s R) (h1 : ps_PX R q → ∀ L' A', (∀ j, j < 15 → L' j = L0 j) → post 1 (L', A', B)) (h0 : ¬ ps_PX R q → ∀ L' A', (∀ j, j < 15 → L' j = L0 j) → post 0 (L', A', B)) : ∀ M (w : Nat → Nat) (st f : Nat) (L A : Nat → Int32), ps_M q w ≤ M → ps_Row q w → (∀ j, j < q → A j = nI (w j) ∧ w j < 32) → (∀ j, j < 15 → L j = L0 j) → st + M < 39999 → 40001 ≤ f + st → (∀ a, ps_Row q a → ps_gd R q a = true → ps_GE q a w) → wX_canMake_25 post (nI s) (nI q) f 1 (nI st) L A B := by
  intro M
  induction M using Nat.strongRecOn with
  | ind M ih =>
    intro w st f L A hM hw hA hL hst hf hG
    obtain ⟨f, rfl⟩ : ∃ g, f = g + 1 := ⟨f - 1, by omega⟩
    have hS : ps_S L s R := fun x hx => by rw [hL _ (by omega)]; exact hL0 x hx
    have hL' : ∀ G, ∀ j, j < 15 → ps_nl L 3 G j = L0 j := fun G j hj => by
      unfold ps_nl
      rw [ps_puO L _ (by omega)]
      exact hL j hj
    refine br_f (nI_ge (b := 40000) (by omega) (by decide)) (br_f zz_10 (xp_cm42 hs hq hS hA (fun g => h1 ⟨w, hw, g⟩ _ _ (hL' _)) (fun g => ?_)))
    unfold wX_canMake_135
    refine xp_nextRow hq hw hA (fun hm => nm_r (nI_1 st) ?_) (fun k hk hlt hm A' hA' => nm_r (nI_1 st) ?_)
    · obtain ⟨f, rfl⟩ : ∃ g, f = g + 1 := ⟨f - 1, by omega⟩
      refine br_f (nI_ge (b := 40000) (by omega) (by decide)) (br_t rfl (h0 (fun ⟨a, ha, ga⟩ => ?_) _ _ (hL' _)))
      have e := ps_GE_end ha hm (hG a ha ga)
      rw [ps_gd_cg e, g] at ga
      exact absurd ga (by decide)
    · have hn := ps_M_nx (w := w) hk (by omega) hlt
      have hr := ps_nx_Row hw hk hlt
      refine ih (ps_M q (ps_nx w k)) (by omega) (ps_nx w k) (st + 1) f _ A' (Nat.le_refl _) hr (fun j hj => ⟨hA' j hj, hr.2 j hj⟩) (hL' _) (by omega) (by omega) (fun a ha ga => ?_)
      refine ps_GE_nx ha hk hm (fun e => ?_) (hG a ha ga)
      rw [ps_gd_cg e, g] at ga
      exact absurd ga (by decide)
theorem ps_M0 : ∀ q, q < 5 → ps_M q (fun j => j) ≤ 35959 := by decide +kernel
theorem xp_canMake {post : Int32 → SX → Prop} {s q : Nat} {R : Nat → Nat → Bool} (hs : s < 3) (hq : q ≤ 4) (hL : ps_S L s R) (h1 : ps_PX R q → ∀ L' A', (∀ j, j < 15 → L' j = L j) → post 1 (L', A', B)) (h0 : ¬ ps_PX R q → ∀ L' A', (∀ j, j < 15 → L' j = L j) → post 0 (L', A', B)) : wpX_canMake post (L, A, B) (nI s) (nI q) := by
  unfold wpX_canMake
  refine ps_lq (fun n b i => wX_canMake_2 post (nI s) (nI q) n i L b B) (fun i => ps_pu A 0 i (fun d => nI d)) q (ps_pu0 _ _ _) (fun n => br_t (zz_le q) ⟨40001, ?_⟩) (fun n i hi k => ?_)
  · refine xp_cm25 hs hq hL h1 h0 35959 (fun j => j) 0 40001 L _ (ps_M0 q (by omega)) ⟨fun j _ => Nat.lt_succ_self j, fun j hj => (show j < 32 by omega)⟩ (fun j hj => ⟨?_, (show j < 32 by omega)⟩) (fun _ _ => rfl) (by decide) (by decide) (fun a ha _ => ps_GE_pw (fun j hj => ps_Row_lo ha hj))
    have e := ps_puI A (b := 0) (n := q) (x := j) (fun d => nI d) hj
    rw [Nat.zero_add] at e
    exact e
  · have e := ps_puS A 0 i (fun d => nI d) rfl
    rw [Nat.zero_add] at e
    refine br_f (nI_ge hi (by omega)) ⟨vp_in_nI (by omega) (by decide), ?_⟩
    rw [nI_clamp (by omega)]
    exact nm_r e (nm_r (nI_1 i) k)
theorem xp_needed {post : Int32 → SX → Prop} {s m : Nat} {R : Nat → Nat → Bool} (hs : s < 3) (hm : m ≤ 5) (hL : ps_S L s R) (hx : ps_PX R m) (hn : ∀ j, j < m → ¬ ps_PX R j) (h : ∀ L' A', (∀ j, j < 15 → L' j = L j) → post (nI m) (L', A', B)) : wpX_needed post (L, A, B) (nI s) := by
  unfold wpX_needed
  refine xp_sp1 hs (br_f zz_10 ⟨m + 1, ?_⟩)
  have H : ∀ d i (L1 A1 : Nat → Int32), i + d = m → (∀ j, j < 15 → L1 j = L j) → wX_needed_11 post (nI s) (d + 1) (nI i) L1 A1 B := by
    intro d
    induction d with
    | zero =>
      intro i L1 A1 hi hj
      have e : i = m := hi
      subst e
      rcases Nat.lt_or_ge i 5 with c | c
      · have hS : ps_S L1 s R := fun x hx => by rw [hj _ (by omega)]; exact hL x hx
        refine br_f (nI_ge (b := 5) c (by decide)) (xp_canMake hs (by omega) hS (fun _ L' A' hl => br_f zz_10 (h L' A' (fun j q => (hl j q).trans (hj j q)))) (fun g => absurd hx g))
      · have e : i = 5 := by omega
        subst e
        exact br_t (zz_le 5) (h L1 A1 hj)
    | succ d ih =>
      intro i L1 A1 hi hj
      have hS : ps_S L1 s R := fun x hx => by rw [hj _ (by omega)]; exact hL x hx
      exact br_f (nI_ge (b := 5) (by omega) (by decide)) (xp_canMake hs (by omega) hS (fun g => absurd g (hn i (by omega))) (fun _ L' A' hl => br_t rfl (nm_r (nI_1 i) (ih (i + 1) L' A' (by omega) (fun j q => (hl j q).trans (hj j q))))))
  exact H m 0 L A (Nat.zero_add m) (fun _ _ => rfl)
end
end
section
/-! needed: Y's walk, and the owed row -/
def ps_ky : Nat → Nat → Nat
  | 0, _ => 1
  | _ + 1, 0 => 1
  | m + 1, e + 1 => 1 + ps_ky m e + ps_ky (m + 1) e
theorem ps_ky_b : ∀ m, m < 6 → ps_ky m 30 ≤ 1000000 := by decide +kernel
section
variable {F : Nat → Int32}
theorem yp_lev {post : Int32 → SY → Prop} {s many : Nat} {R : Nat → Nat → Bool} (hs : s < 3) (hmany : many ≤ 5) (hF : F s = ps_fm (ps_OP R)) : ∀ m d, d + m = many → ∀ e c, c + e = 30 → ∀ (st f : Nat) (ma tr : Nat → Int32) (G : Nat → Nat → Bool), ps_Pre G → ma d = ps_fm (ps_OP G) → tr d = nI c → st + ps_ky m e ≤ 1999999 → 2000001 ≤ f + st → (ps_sy R m c G → ∀ ma' tr', post 1 (F, ma', tr')) → (¬ ps_sy R m c G → ∀ (f' st' : Nat) (ma' tr' : Nat → Int32), (∀ y, y < d → ma' y = ma y) → (∀ y, y < d → tr' y = tr y) → st' ≤ st + ps_ky m e → 2000001 ≤ f' + st' → wY_makes_20 post (nI s) (nI many) f' (nI d + (-1)) (nI st') F ma' tr') → wY_makes_20 post (nI s) (nI many) f (nI d) (nI st) F ma tr := by
  intro m
  induction m with
  | zero =>
    intro d hd e c hc st f ma tr G hG hma htr hst hf h1 h0
    have hd : d = many := hd
    subst hd
    have k1 : ps_ky 0 e = 1 := by cases e <;> simp [ps_ky]
    obtain ⟨f, rfl⟩ : ∃ g, f = g + 1 := ⟨f - 1, by omega⟩
    have cd : (nI d).toNatClampNeg = d := nI_clamp (by omega)
    have cs : F (nI s).toNatClampNeg = ps_fm (ps_OP R) := by rw [nI_clamp (by omega), hF]
    refine br_f (nI_ge (b := 2000000) (by omega) (by decide)) (br_f (nI_pos (by omega)) (br_t rfl ⟨vp_in_nI (by omega) (by decide), vp_in_nI hs (by decide), ?_⟩))
    rw [cd, cs, hma]
    refine br_c (fun q => h1 (ps_fm_inj q) ma tr) (fun q => nm_e (nm_r (nI_1 st) ?_))
    exact h0 (fun g => q (ps_fm_cg g)) f (st + 1) ma tr (fun _ _ => rfl) (fun _ _ => rfl) (by omega) (by omega)
  | succ m ihm =>
    intro d hd e
    induction e with
    | zero =>
      intro c hc st f ma tr G hG hma htr hst hf h1 h0
      have k1 : ps_ky (m + 1) 0 = 1 := rfl
      have hc : c = 30 := hc
      subst hc
      obtain ⟨f, rfl⟩ : ∃ g, f = g + 1 := ⟨f - 1, by omega⟩
      have cd : (nI d).toNatClampNeg = d := nI_clamp (by omega)
      have ne : ¬ nI d = nI many := by rw [nI_eq (by omega) (by omega)]; omega
      refine br_f (nI_ge (b := 2000000) (by omega) (by decide)) (br_f (nI_pos (by omega)) (br_f ne ⟨vp_in_nI (by omega) (by decide), ?_⟩))
      rw [cd, htr]
      refine br_f (by decide) (nm_e (nm_r (nI_1 st) ?_))
      exact h0 (fun ⟨v, a, b, _⟩ => by omega) f (st + 1) ma tr (fun _ _ => rfl) (fun _ _ => rfl) (by omega) (by omega)
    | succ e ihe =>
      intro c hc st f ma tr G hG hma htr hst hf h1 h0
      have k1 : ps_ky (m + 1) (e + 1) = 1 + ps_ky m e + ps_ky (m + 1) e := rfl
      obtain ⟨f, rfl⟩ : ∃ g, f = g + 1 := ⟨f - 1, by omega⟩
      have cd : (nI d).toNatClampNeg = d := nI_clamp (by omega)
      have cs : F (nI s).toNatClampNeg = ps_fm (ps_OP R) := by rw [nI_clamp (by omega), hF]
      have ne : ¬ nI d = nI many := by rw [nI_eq (by omega) (by omega)]; omega
      have vd : vp_in (nI d) 33 := vp_in_nI (by omega) (by decide)
      have c30 : c < 30 := by omega
      have S := ps_sy_S (R := R) (m := m) (c := c) (G := G) c30
      refine br_f (nI_ge (b := 2000000) (by omega) (by decide)) (br_f (nI_pos (by omega)) (br_f ne ⟨vd, ?_⟩))
      rw [cd, htr, cs, hma]
      refine br_t (nI_lt (b := 30) c30 (by decide)) ⟨vd, vd, nm_r (e' := upd tr d (nI (c + 1))) (by rw [nI_1]) ⟨vd, nm_r (e' := nI (c + 1)) pk_us ⟨vp_in_nI hs (by decide), yp_in (show c + 1 < 32 by omega) (zz_br (fun o => nm_r (nI_1 st) ?_) (fun o => ⟨vd, yp_with (show c + 1 < 32 by omega) ?_⟩))⟩⟩⟩
      · have o' : ¬ ps_OP R (c + 1) = true := zz_ft o
        refine ihe (c + 1) (by omega) (st + 1) f ma (upd tr d (nI (c + 1))) G hG hma pk_us (by omega) (by omega) (fun g => h1 (S.mpr (Or.inr g))) (fun g f' st' ma' tr' a1 a2 a3 a4 => ?_)
        refine h0 (fun z => ?_) f' st' ma' tr' a1 (fun y hy => (a2 y hy).trans (pk_un (by omega))) (by omega) a4
        rcases S.mp z with z | z
        · exact o' z.1
        · exact g z
      · rw [nI_1, nI_clamp (show d + 1 < 2 ^ 31 by omega)]
        have vd1 : vp_in (nI (d + 1)) 33 := vp_in_nI (by omega) (by decide)
        refine ⟨vd1, nm_e ⟨vd1, nm_e (nm_e (nm_r (nI_1 st) ?_))⟩⟩
        refine ihm (d + 1) (by omega) e (c + 1) (by omega) (st + 1) f _ _ (ps_ad G (c + 1)) (ps_ad_Pre hG _) (pk_us.trans (ps_fm_cg (ps_with_OP hG (show c + 1 < 32 by omega)))) pk_us (by omega) (by omega) (fun g => h1 (S.mpr (Or.inl ⟨o, g⟩))) (fun g f1 st1 ma1 tr1 a1 a2 a3 a4 => ?_)
        rw [pk_m1]
        refine ihe (c + 1) (by omega) st1 f1 ma1 tr1 G hG ?_ ?_ (by omega) a4 (fun g1 => h1 (S.mpr (Or.inr g1))) (fun g1 f' st' ma' tr' b1 b2 b3 b4 => ?_)
        · rw [a1 d (by omega), pk_un (by omega), hma]
        · rw [a2 d (by omega), pk_un (by omega), pk_us]
        · refine h0 (fun z => ?_) f' st' ma' tr' (fun y hy => ?_) (fun y hy => ?_) (by omega) b4
          · rcases S.mp z with z | z
            · exact g z.2
            · exact g1 z
          · rw [b1 y hy, a1 y (by omega), pk_un (by omega)]
          · rw [b2 y hy, a2 y (by omega), pk_un (by omega), pk_un (by omega)]
theorem yp_makes {post : Int32 → SY → Prop} {s q : Nat} {ma tr : Nat → Int32} {R : Nat → Nat → Bool} (hs : s < 3) (hq : q ≤ 5) (hF : F s = ps_fm (ps_OP R)) (h1 : ps_sy R q 0 ps_rp → ∀ ma' tr', post 1 (F, ma', tr')) (h0 : ¬ ps_sy R q 0 ps_rp → ∀ ma' tr', post 0 (F, ma', tr')) : wpY_makes post (F, ma, tr) (nI s) (nI q) := by
  unfold wpY_makes
  refine nm_e (nm_e ⟨2000001, ?_⟩)
  have b := ps_ky_b q (by omega)
  refine yp_lev hs hq hF q 0 (Nat.zero_add q) 30 0 rfl 0 2000001 _ _ ps_rp ps_rp_Pre (pk_us.trans ps_plain) pk_us (by omega) (by decide) h1 (fun g f' st' ma' tr' _ _ h3 h4 => ?_)
  obtain ⟨f, rfl⟩ : ∃ g, f' = g + 1 := ⟨f' - 1, by omega⟩
  exact br_f (nI_ge (b := 2000000) (by omega) (by decide)) (br_t (by decide) (h0 g ma' tr'))
theorem yp_needed {post : Int32 → SY → Prop} {s m : Nat} {ma tr : Nat → Int32} {R : Nat → Nat → Bool} (hs : s < 3) (hm : m ≤ 5) (hF : F s = ps_fm (ps_OP R)) (hx : ps_sy R m 0 ps_rp) (hn : ∀ j, j < m → ¬ ps_sy R j 0 ps_rp) (h : ∀ ma' tr', post (nI m) (F, ma', tr')) : wpY_needed post (F, ma, tr) (nI s) := by
  unfold wpY_needed
  refine yp_sp1 hs (br_f zz_10 ⟨m + 1, ?_⟩)
  have H : ∀ d i (ma tr : Nat → Int32), i + d = m → wY_needed_12 post (nI s) (d + 1) (nI i) F ma tr := by
    intro d
    induction d with
    | zero =>
      intro i ma tr hi
      have e : i = m := hi
      subst e
      exact br_f (nI_ge (b := 30) (by omega) (by decide)) (yp_makes hs hm hF (fun _ ma' tr' => br_f zz_10 (h ma' tr')) (fun g => absurd hx g))
    | succ d ih =>
      intro i ma tr hi
      exact br_f (nI_ge (b := 30) (by omega) (by decide)) (yp_makes hs (by omega) hF (fun g => absurd g (hn i (by omega))) (fun _ ma' tr' => br_t rfl (nm_r (nI_1 i) (ih (i + 1) ma' tr' (by omega)))))
  exact H m 0 ma tr (Nat.zero_add m)
end
theorem i_vc_needed {k : Nat} {u : SX} {v : SY} (I : i_Rel k u v) (hk : k + 4 ≤ 2048) (v1 : Int32) : wpX_needed (fun r u' => wpY_needed (fun r' v' => r' = r ∧ i_Rel (k + 4) u' v') v v1) u v1 := by
  obtain ⟨L, im, re⟩ := u
  obtain ⟨F, ma, tr⟩ := v
  obtain ⟨R, hR⟩ := I
  have hR : ps_Rl L F R := hR
  rcases ps_cs 3 (by decide) v1 with b | ⟨s, hs, rfl⟩
  · unfold wpX_needed wpY_needed
    exact xp_sp0 b (br_t rfl (yp_sp0 b (br_t rfl ⟨rfl, R, hR⟩)))
  · obtain ⟨m, hm, y1, y0, x1, x0⟩ := ps_least (hR s hs).1
    refine xp_needed hs hm (hR s hs).2.1 x1 x0 (fun L' A' hl => yp_needed hs hm (hR s hs).2.2 y1 y0 (fun ma' tr' => ⟨rfl, R, fun t ht => ?_⟩))
    exact ⟨(hR t ht).1, fun x hx => (hl _ (by omega)).trans ((hR t ht).2.1 x hx), (hR t ht).2.2⟩
end
