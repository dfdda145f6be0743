section
/-! bits of an Int32 (turned from the kit's rows on bits) -/
def up_b (x : Int32) (i : Nat) : Bool := x.toBitVec.getLsbD i
theorem up_ext {x y : Int32} (h : ∀ i, up_b x i = up_b y i) : x = y := Int32.toBitVec_inj.mp (BitVec.eq_of_getLsbD_eq (fun i _ => h i))
theorem up_or (x y : Int32) (i : Nat) : up_b (x ||| y) i = (up_b x i || up_b y i) := by unfold up_b; rw [Int32.toBitVec_or, BitVec.getLsbD_or]
theorem up_and (x y : Int32) (i : Nat) : up_b (x &&& y) i = (up_b x i && up_b y i) := by unfold up_b; rw [Int32.toBitVec_and, BitVec.getLsbD_and]
theorem up_xor (x y : Int32) (i : Nat) : up_b (x ^^^ y) i = (up_b x i ^^ up_b y i) := by unfold up_b; rw [Int32.toBitVec_xor, BitVec.getLsbD_xor]
theorem up_big {x : Int32} {i : Nat} (h : 32 ≤ i) : up_b x i = false := BitVec.getLsbD_of_ge _ _ h
theorem up_m1 : ∀ i, i < 32 → up_b (-1) i = true := by decide +kernel
theorem up_0 (i : Nat) : up_b 0 i = false := BitVec.getLsbD_zero
theorem up_sl : ∀ n, n < 32 → ((nI n &&& 31).toBitVec.smod 32).toNat = n := by decide +kernel
theorem up_shl (n : Nat) (hn : n < 32) (x : Int32) {i : Nat} (hi : i < 32) : up_b (x <<< (nI n &&& 31)) i = (decide (n ≤ i) && up_b x (i - n)) := by
  unfold up_b
  rw [Int32.toBitVec_shiftLeft]
  show (x.toBitVec <<< ((nI n &&& 31).toBitVec.smod 32).toNat).getLsbD i = _
  rw [up_sl n hn, BitVec.getLsbD_shiftLeft]
  rcases Nat.lt_or_ge i n with h | h
  · simp [h, Nat.not_le.mpr h]
  · simp [hi, h, Nat.not_lt.mpr h]
theorem up_sshr (n : Nat) (hn : n < 32) (x : Int32) {i : Nat} (hi : i < 32) : up_b (x >>> (nI n &&& 31)) i = if n + i < 32 then up_b x (n + i) else up_b x 31 := by
  unfold up_b
  rw [Int32.toBitVec_shiftRight]
  show (x.toBitVec.sshiftRight ((nI n &&& 31).toBitVec.smod 32).toNat).getLsbD i = _
  rw [up_sl n hn, BitVec.getLsbD_sshiftRight, BitVec.msb_eq_getLsbD_last]
  simp [hi]
theorem up_lt32 {x : Int32} {i : Nat} (h : up_b x i = true) : i < 32 := by
  rcases Nat.lt_or_ge i 32 with g | g
  · exact g
  · rw [up_big g] at h; exact absurd h (by decide)
theorem up_ff {x : Bool} (h : ¬ x = true) : x = false := by cases x with
  | false => rfl
  | true => exact absurd rfl h
theorem up_tt {x : Bool} (h : ¬ x = false) : x = true := by cases x with
  | true => rfl
  | false => exact absurd rfl h
theorem up_tf {x : Bool} (h : x = true) (g : x = false) : False := by rw [h] at g; exact absurd g (by decide)
theorem up_not (x : Int32) {i : Nat} (hi : i < 32) : up_b (x ^^^ (-1)) i = !(up_b x i) := by
  rw [up_xor, up_m1 i hi]; cases up_b x i <;> rfl
theorem up_1b : ∀ i, i < 32 → up_b 1 i = decide (i = 0) := by decide +kernel
theorem up_1 (i : Nat) : up_b 1 i = decide (i = 0) := by
  rcases Nat.lt_or_ge i 32 with h | h
  · exact up_1b i h
  · rw [up_big h, decide_eq_false (by omega)]
theorem up_one (p : Nat) (hp : p < 32) (i : Nat) : up_b ((1 : Int32) <<< (nI p &&& 31)) i = decide (i = p) := by
  rcases Nat.lt_or_ge i 32 with h | h
  · rw [up_shl p hp 1 h, up_1]
    by_cases g : i = p
    · subst g; simp
    · by_cases g2 : p ≤ i
      · rw [decide_eq_true g2, decide_eq_false (show ¬ i - p = 0 by omega), decide_eq_false g]; rfl
      · rw [decide_eq_false g2, decide_eq_false g]; rfl
  · rw [up_big h, decide_eq_false (by omega)]
theorem up_z {x : Int32} : x = 0 ↔ ∀ i, up_b x i = false := by
  constructor
  · intro h i; rw [h, up_0]
  · intro h; exact up_ext (fun i => by rw [h i, up_0])
theorem up_nz {x : Int32} (h : ¬ x = 0) : ∃ i, up_b x i = true := by
  refine Classical.byContradiction (fun g => h (up_z.mpr (fun i => up_ff (fun e => g ⟨i, e⟩))))
theorem up_tst (x : Int32) (p : Nat) (hp : p < 32) : ((x >>> (nI p &&& 31)) &&& 1) = 0 ↔ up_b x p = false := by
  rw [up_z]
  constructor
  · intro h
    have h0 := h 0
    rw [up_and, up_1, up_sshr p hp x (by omega), if_pos (show p + 0 < 32 by omega)] at h0
    simpa using h0
  · intro h i
    rw [up_and, up_1]
    by_cases g : i = 0
    · rw [g, up_sshr p hp x (by omega), if_pos (show p + 0 < 32 by omega), Nat.add_zero, h]; rfl
    · rw [decide_eq_false g, Bool.and_false]
theorem up_andz {x y : Int32} : x &&& y = 0 ↔ ∀ i, up_b x i = true → up_b y i = false := by
  rw [up_z]
  constructor
  · intro h i hx
    have := h i
    rw [up_and, hx, Bool.true_and] at this
    exact this
  · intro h i
    rw [up_and]
    by_cases g : up_b x i = true
    · rw [g, h i g]; rfl
    · rw [up_ff g]; rfl
theorem up_andnz {x y : Int32} (h : ¬ x &&& y = 0) : ∃ i, up_b x i = true ∧ up_b y i = true := by
  obtain ⟨i, hi⟩ := up_nz h
  rw [up_and, Bool.and_eq_true] at hi
  exact ⟨i, hi⟩
theorem up_dif {x y : Int32} : x &&& (y ^^^ (-1)) = 0 ↔ ∀ i, up_b x i = true → up_b y i = true := by
  rw [up_andz]
  constructor
  · intro h i hx
    have := h i hx
    rw [up_not _ (up_lt32 hx)] at this
    exact up_tt (fun g => by rw [g] at this; exact absurd this (by decide))
  · intro h i hx
    rw [up_not _ (up_lt32 hx), h i hx]; rfl
theorem up_difb (x y : Int32) (i : Nat) : up_b (x &&& (y ^^^ (-1))) i = true ↔ up_b x i = true ∧ up_b y i = false := by
  rw [up_and, Bool.and_eq_true]
  constructor
  · intro h
    refine ⟨h.1, ?_⟩
    have := h.2
    rw [up_not _ (up_lt32 h.1)] at this
    exact up_ff (fun g => by rw [g] at this; exact absurd this (by decide))
  · intro h
    refine ⟨h.1, ?_⟩
    rw [up_not _ (up_lt32 h.1), h.2]; rfl
theorem up_ort {x y : Int32} {i : Nat} : up_b (x ||| y) i = true ↔ up_b x i = true ∨ up_b y i = true := by
  rw [up_or, Bool.or_eq_true]
theorem up_orf {x y : Int32} {i : Nat} : up_b (x ||| y) i = false ↔ up_b x i = false ∧ up_b y i = false := by
  rw [up_or, Bool.or_eq_false_iff]
theorem up_onet {p i : Nat} (hp : p < 32) : up_b ((1 : Int32) <<< (nI p &&& 31)) i = true ↔ i = p := by
  rw [up_one p hp, decide_eq_true_iff]

/-- all bits of x lie below n -/
def up_in (n : Nat) (x : Int32) : Prop := ∀ i, up_b x i = true → i < n
theorem up_in0 (n : Nat) : up_in n 0 := fun i h => absurd h (by rw [up_0]; decide)
theorem up_inor {n : Nat} {x y : Int32} (hx : up_in n x) (hy : up_in n y) : up_in n (x ||| y) := fun i h => (up_ort.mp h).elim (hx i) (hy i)
theorem up_inone {n p : Nat} (hp : p < n) (hn : n ≤ 10) : up_in n ((1 : Int32) <<< (nI p &&& 31)) := fun i h => by
  rw [(up_onet (by omega)).mp h]; exact hp
theorem up_inand {n : Nat} {x y : Int32} (hx : up_in n x) : up_in n (x &&& y) := fun i h => by
  rw [up_and, Bool.and_eq_true] at h; exact hx i h.1
theorem up_inf {n : Nat} {x : Int32} (hx : up_in n x) {i : Nat} (h : n ≤ i) : up_b x i = false := up_ff (fun g => by have := hx i g; omega)
theorem up_inmono {n m : Nat} {x : Int32} (h : n ≤ m) (hx : up_in n x) : up_in m x := fun i g => by have := hx i g; omega
theorem up_nIb (k i : Nat) (hi : i < 32) : up_b (nI k) i = k.testBit i := by
  show (BitVec.ofNat 32 k).getLsbD i = _
  rw [BitVec.getLsbD_ofNat, decide_eq_true hi, Bool.true_and]
theorem up_innI {n : Nat} (hn : n ≤ 10) {x : Int32} (h : up_in n x) : ∃ k, k < 2 ^ n ∧ x = nI k := by
  have e : x = nI x.toBitVec.toNat := by
    apply Int32.toBitVec_inj.mp
    show x.toBitVec = BitVec.ofNat 32 x.toBitVec.toNat
    rw [BitVec.ofNat_toNat, BitVec.setWidth_eq]
  refine ⟨x.toBitVec.toNat, ?_, e⟩
  apply Nat.lt_pow_two_of_testBit
  intro i hi
  have := up_inf h hi
  unfold up_b at this
  exact this
theorem up_p2 : ∀ n, n < 11 → (1 : Int32) <<< (nI n &&& 31) = nI (2 ^ n) := by decide +kernel
theorem up_p2b {n : Nat} (hn : n ≤ 10) : 2 ^ n ≤ 1024 := by
  have := Nat.pow_le_pow_right (show 0 < 2 by omega) hn
  exact this
theorem up_inlt {n : Nat} (hn : n ≤ 10) {x : Int32} (h : up_in n x) : ¬ x < 0 ∧ ¬ (1 : Int32) <<< (nI n &&& 31) ≤ x := by
  obtain ⟨k, hk, rfl⟩ := up_innI hn h
  have := up_p2b hn
  refine ⟨nI_pos (by omega), ?_⟩
  rw [up_p2 n (by omega)]
  exact nI_ge hk (by omega)
theorem up_ltin {n : Nat} (hn : n ≤ 10) {x : Int32} (h : ¬ x < 0) (g : ¬ (1 : Int32) <<< (nI n &&& 31) ≤ x) : up_in n x := by
  obtain ⟨k, hk, rfl⟩ := nI_of h
  have := up_p2b hn
  rw [up_p2 n (by omega), nI_leI (by omega) hk] at g
  intro i hi
  have h32 := up_lt32 hi
  rw [up_nIb k i h32] at hi
  rcases Nat.lt_or_ge i n with z | z
  · exact z
  · have h2 : 2 ^ n ≤ 2 ^ i := Nat.pow_le_pow_right (by omega) z
    rw [Nat.testBit_lt_two_pow (by omega)] at hi
    exact absurd hi (by decide)
theorem up_fullb : ∀ n, n < 11 → ∀ i, i < 32 → up_b (((1 : Int32) <<< (nI n &&& 31)) - 1) i = decide (i < n) := by decide +kernel
theorem up_full {n : Nat} (hn : n ≤ 10) (i : Nat) : up_b (((1 : Int32) <<< (nI n &&& 31)) - 1) i = true ↔ i < n := by
  rcases Nat.lt_or_ge i 32 with h | h
  · rw [up_fullb n (by omega) i h, decide_eq_true_iff]
  · rw [up_big h]
    exact ⟨fun z => absurd z (by decide), fun z => by omega⟩
/-- one bit alone -/
theorem up_sgb : ∀ k, k < 1024 → k = 0 ∨ ¬ (nI k &&& (nI k - 1)) = 0 ∨ ∃ q, q < 10 ∧ nI k = (1 : Int32) <<< (nI q &&& 31) := by decide +kernel
theorem up_sg {n : Nat} (hn : n ≤ 10) {x : Int32} (h : up_in n x) (h0 : ¬ x = 0) (h1 : (x &&& (x - 1)) = 0) : ∃ q, ∀ i, up_b x i = true ↔ i = q := by
  obtain ⟨k, hk, rfl⟩ := up_innI hn h
  have := up_p2b hn
  rcases up_sgb k (by omega) with z | z | ⟨q, hq, z⟩
  · rw [z] at h0; exact absurd nI_0 h0
  · exact absurd h1 z
  · exact ⟨q, fun i => by rw [z]; exact up_onet (by omega)⟩

/-- how many bits below n -/
def up_pp (x : Int32) : Nat → Nat
  | 0 => 0
  | n + 1 => up_pp x n + (if up_b x n = true then 1 else 0)
theorem up_pp_le (x : Int32) (n : Nat) : up_pp x n ≤ n := by
  induction n with
  | zero => exact Nat.le_refl 0
  | succ n ih => unfold up_pp; split <;> omega
theorem up_pp_mono {x y : Int32} (h : ∀ i, up_b x i = true → up_b y i = true) (n : Nat) : up_pp x n ≤ up_pp y n := by
  induction n with
  | zero => exact Nat.le_refl 0
  | succ n ih =>
    unfold up_pp
    by_cases g : up_b x n = true
    · rw [if_pos g, if_pos (h n g)]; omega
    · rw [if_neg g]; split <;> omega
theorem up_pp_lt {x y : Int32} (h : ∀ i, up_b x i = true → up_b y i = true) {j : Nat} (hx : up_b x j = false) (hy : up_b y j = true) : ∀ n, j < n → up_pp x n < up_pp y n := by
  intro n
  induction n with
  | zero => intro g; omega
  | succ n ih =>
    intro g
    unfold up_pp
    by_cases e : j = n
    · subst e
      have := up_pp_mono h j
      rw [if_neg (fun z => up_tf z hx), if_pos hy]; omega
    · have := ih (by omega)
      by_cases g : up_b x n = true
      · rw [if_pos g, if_pos (h n g)]; omega
      · rw [if_neg g]; split <;> omega

/-- the pair of sets as one number -/
theorem up_encb {c r : Int32} (hc : up_in 10 c) (i : Nat) (hi : i < 32) : up_b (c ||| (r <<< ((10 : Int32) &&& 31))) i = if i < 10 then up_b c i else up_b r (i - 10) := by
  have e := up_shl 10 (by omega) r hi
  rw [up_or]
  have e' : up_b (r <<< ((10 : Int32) &&& 31)) i = (decide (10 ≤ i) && up_b r (i - 10)) := e
  rw [e']
  by_cases h : i < 10
  · rw [if_pos h, decide_eq_false (by omega), Bool.false_and, Bool.or_false]
  · rw [if_neg h, decide_eq_true (by omega), Bool.true_and, up_inf hc (by omega), Bool.false_or]
theorem up_enc {c r c' r' : Int32} (hc : up_in 10 c) (hr : up_in 10 r) (hc' : up_in 10 c') (hr' : up_in 10 r') (h : c ||| (r <<< ((10 : Int32) &&& 31)) = c' ||| (r' <<< ((10 : Int32) &&& 31))) : c = c' ∧ r = r' := by
  constructor
  · apply up_ext
    intro i
    rcases Nat.lt_or_ge i 10 with g | g
    · have e1 := up_encb (r := r) hc i (by omega)
      have e2 := up_encb (r := r') hc' i (by omega)
      rw [if_pos g] at e1 e2
      rw [← e1, ← e2, h]
    · rw [up_inf hc g, up_inf hc' g]
  · apply up_ext
    intro i
    rcases Nat.lt_or_ge i 10 with g | g
    · have e1 := up_encb (r := r) hc (i + 10) (by omega)
      have e2 := up_encb (r := r') hc' (i + 10) (by omega)
      rw [if_neg (by omega), Nat.add_sub_cancel] at e1 e2
      rw [← e1, ← e2, h]
    · rw [up_inf hr g, up_inf hr' g]
theorem up_encm {c r : Int32} (hc : up_in 10 c) (hr : up_in 10 r) : ¬ (-1 : Int32) = c ||| (r <<< ((10 : Int32) &&& 31)) := by
  intro h
  have e1 := up_encb (r := r) hc 31 (by omega)
  rw [← h, if_neg (by omega), up_m1 31 (by omega), up_inf hr (by omega)] at e1
  exact absurd e1 (by decide)
end
section
/-! sets of packages as numbers: pure rows -/
def up_sub (x y : Int32) : Prop := ∀ i, up_b x i = true → up_b y i = true
def up_dj (c r : Int32) : Prop := ∀ i, up_b c i = true → up_b r i = false
def up_con (c r S : Int32) : Prop := (∀ i, up_b c i = true → up_b S i = true) ∧ (∀ i, up_b r i = true → up_b S i = false)
theorem up_subr (x : Int32) : up_sub x x := fun _ h => h
theorem up_subt {x y z : Int32} (h : up_sub x y) (g : up_sub y z) : up_sub x z := fun i e => g i (h i e)
theorem up_suba {x y : Int32} (h : up_sub x y) (g : up_sub y x) : x = y := up_ext (fun i => by
  by_cases e : up_b x i = true
  · rw [e, h i e]
  · rw [up_ff e]; exact (up_ff (fun z => e (g i z))).symm)
theorem up_subl (x y : Int32) : up_sub x (x ||| y) := fun _ h => up_ort.mpr (Or.inl h)
theorem up_subo {x y : Int32} (h : x ||| y = x) : up_sub y x := fun i e => by
  have : up_b (x ||| y) i = true := up_ort.mpr (Or.inr e)
  rw [h] at this; exact this
/-- a set of packages is right by the tables -/
def up_rt (n : Nat) (nc tg ex sh : Nat → Int32) (wn un S : Int32) : Prop :=
  up_in n S ∧
  (∀ p, p < n → up_b S p = true → (∀ i, up_b (ex p) i = true → up_b S i = false) ∧ ∀ k, k < (nc p).toNatClampNeg → ∃ i, up_b (tg (2 * p + k)) i = true ∧ up_b S i = true) ∧
  (∀ m, m < 5 → (up_b wn m = true → ∃ i, up_b (sh m) i = true ∧ up_b S i = true) ∧ (up_b un m = true → ∀ i, up_b (sh m) i = true → up_b S i = false))
/-- the tables lie in range -/
def up_tb (n : Nat) (nc tg ex sh : Nat → Int32) : Prop :=
  n ≤ 10 ∧ (∀ p, p < n → ∃ j, j < 3 ∧ nc p = nI j) ∧ (∀ p, p < n → ∀ k, k < (nc p).toNatClampNeg → up_in n (tg (2 * p + k))) ∧ (∀ p, p < n → up_in n (ex p)) ∧ (∀ m, m < 5 → up_in n (sh m))
/-- decisions (c, r) have come out of (c0, r0): nothing is lost -/
def up_st (R : Int32 → Prop) (n : Nat) (c0 r0 c r : Int32) : Prop := up_in n c ∧ up_in n r ∧ up_sub c0 c ∧ up_sub r0 r ∧ ∀ S, R S → up_con c0 r0 S → up_con c r S
theorem up_st_r {R : Int32 → Prop} {n : Nat} {c r : Int32} (hc : up_in n c) (hr : up_in n r) : up_st R n c r c r := ⟨hc, hr, up_subr c, up_subr r, fun _ _ h => h⟩
theorem up_st_t {R : Int32 → Prop} {n : Nat} {c0 r0 c1 r1 c2 r2 : Int32} (h : up_st R n c0 r0 c1 r1) (g : up_st R n c1 r1 c2 r2) : up_st R n c0 r0 c2 r2 :=
  ⟨g.1, g.2.1, up_subt h.2.2.1 g.2.2.1, up_subt h.2.2.2.1 g.2.2.2.1, fun S hS hc => g.2.2.2.2 S hS (h.2.2.2.2 S hS hc)⟩
theorem up_st_n {R : Int32 → Prop} {n : Nat} {c0 r0 c1 r1 : Int32} (h : up_st R n c0 r0 c1 r1) (g : ∀ S, R S → ¬ up_con c1 r1 S) : ∀ S, R S → ¬ up_con c0 r0 S :=
  fun S hS hc => g S hS (h.2.2.2.2 S hS hc)
theorem up_st_c {R : Int32 → Prop} {n : Nat} {c0 r0 c r : Int32} (h : up_st R n c0 r0 c r) (g : ¬ c &&& r = 0) : ∀ S, R S → ¬ up_con c0 r0 S := by
  intro S hS hc
  obtain ⟨i, i1, i2⟩ := up_andnz g
  have := h.2.2.2.2 S hS hc
  exact up_tf (this.1 i i1) (this.2 i i2)
def up_ckN (sh : Nat → Int32) (wn un r : Int32) (m : Nat) : Prop := (up_b wn m = true → ∃ i, up_b (sh m) i = true ∧ up_b r i = false) ∧ (up_b un m = true → up_sub (sh m) r)
def up_ckP (nc tg ex : Nat → Int32) (c r : Int32) (p : Nat) : Prop := up_b c p = true → up_sub (ex p) r ∧ ∀ k, k < (nc p).toNatClampNeg → ∃ i, up_b (tg (2 * p + k)) i = true ∧ up_b r i = false
def up_ck (n : Nat) (nc tg ex sh : Nat → Int32) (wn un c r : Int32) : Prop := (∀ m, m < 5 → up_ckN sh wn un r m) ∧ ∀ p, p < n → up_ckP nc tg ex c r p
/-- a leaf: all is decided and nothing new came: the chosen set is right -/
theorem up_leaf {n : Nat} {nc tg ex sh : Nat → Int32} {wn un c r : Int32} (tb : up_tb n nc tg ex sh) (hc : up_in n c) (hd : up_dj c r) (ck : up_ck n nc tg ex sh wn un c r) (hf : ∀ i, i < n → up_b c i = true ∨ up_b r i = true) : up_rt n nc tg ex sh wn un c := by
  obtain ⟨_, _, t1, t2, t3⟩ := tb
  refine ⟨hc, fun p hp hcp => ⟨fun i hi => ?_, fun k hk => ?_⟩, fun m hm => ⟨fun hw => ?_, fun hu i hi => ?_⟩⟩
  · exact up_ff (fun g => up_tf ((ck.2 p hp hcp).1 i hi) (hd i g))
  · obtain ⟨i, i1, i2⟩ := (ck.2 p hp hcp).2 k hk
    refine ⟨i, i1, ?_⟩
    rcases hf i (t1 p hp k hk i i1) with g | g
    · exact g
    · exact absurd i2 (fun z => up_tf g z)
  · obtain ⟨i, i1, i2⟩ := (ck.1 m hm).1 hw
    refine ⟨i, i1, ?_⟩
    rcases hf i (t3 m hm i i1) with g | g
    · exact g
    · exact absurd i2 (fun z => up_tf g z)
  · exact up_ff (fun g => up_tf ((ck.1 m hm).2 hu i hi) (hd i g))
/-- something was added: more is decided -/
theorem up_grow {n : Nat} {cp rp c r : Int32} (hc : up_in n c) (hr : up_in n r) (sc : up_sub cp c) (sr : up_sub rp r) (hd : up_dj c r) (ne : ¬ (cp = c ∧ rp = r)) : up_pp (cp ||| rp) n < up_pp (c ||| r) n := by
  have mono : ∀ i, up_b (cp ||| rp) i = true → up_b (c ||| r) i = true := fun i h => up_ort.mpr ((up_ort.mp h).elim (fun g => Or.inl (sc i g)) (fun g => Or.inr (sr i g)))
  refine Classical.byContradiction (fun hno => ne ⟨up_suba sc (fun i hi => ?_), up_suba sr (fun i hi => ?_)⟩)
  · refine up_tt (fun g => hno (up_pp_lt mono (j := i) ?_ (up_ort.mpr (Or.inl hi)) n (hc i hi)))
    exact up_orf.mpr ⟨g, up_ff (fun z => up_tf (sr i z) (hd i hi))⟩
  · refine up_tt (fun g => hno (up_pp_lt mono (j := i) ?_ (up_ort.mpr (Or.inr hi)) n (hr i hi)))
    exact up_orf.mpr ⟨up_ff (fun z => up_tf hi (hd i (sc i z))), g⟩
theorem up_ix (p k : Nat) : 2 * nI p + nI k = nI (2 * p + k) := by
  show nI 2 * nI p + nI k = _
  rw [pk_mul, nI_add]
theorem up_clI {x : Int32} {j : Nat} (hj : j < 2 ^ 31) (h : x = nI j) : x.toNatClampNeg = j := by rw [h, nI_clamp hj]
end
section
/-! the walk of demand, propagateNames, propagatePackage, propagate -/
theorem up_demand {post : Int32 → St1 → Prop} {pc ins wc rd wn un ch rf ct fd bs bc : Int32} {a1 a2 a3 a4 a5 a6 a7 a8 a9 a10 a11 a12 a13 a14 a15 a16 a17 a18 : Nat → Int32} {t : Int32} {n : Nat} (hn : n ≤ 10) (ht : up_in n t) (hc : up_in n ch)
    (H0 : up_sub t rf → post 0 (pc, ins, wc, rd, wn, un, ch, rf, ct, fd, bs, bc, a1, a2, a3, a4, a5, a6, a7, a8, a9, a10, a11, a12, a13, a14, a15, a16, a17, a18))
    (H1 : ∀ c', up_in n c' → up_sub ch c' → (∃ i, up_b t i = true ∧ up_b rf i = false) → (∀ S, up_con ch rf S → (∃ i, up_b t i = true ∧ up_b S i = true) → up_con c' rf S) → post 1 (pc, ins, wc, rd, wn, un, c', rf, ct, fd, bs, bc, a1, a2, a3, a4, a5, a6, a7, a8, a9, a10, a11, a12, a13, a14, a15, a16, a17, a18)) :
    wpX_demand post (pc, ins, wc, rd, wn, un, ch, rf, ct, fd, bs, bc, a1, a2, a3, a4, a5, a6, a7, a8, a9, a10, a11, a12, a13, a14, a15, a16, a17, a18) t := by
  unfold wpX_demand
  refine nm_e (br_c (fun z => H0 (up_dif.mp z)) (fun z => ?_))
  have hx : ∃ i, up_b t i = true ∧ up_b rf i = false := by
    obtain ⟨i, hi⟩ := up_nz z
    exact ⟨i, (up_difb _ _ _).mp hi⟩
  have same : post 1 (pc, ins, wc, rd, wn, un, ch, rf, ct, fd, bs, bc, a1, a2, a3, a4, a5, a6, a7, a8, a9, a10, a11, a12, a13, a14, a15, a16, a17, a18) := H1 ch hc (up_subr ch) hx (fun S hS _ => hS)
  refine br_c (fun z2 => br_c (fun z3 => nm_e (H1 _ (up_inor hc (up_inand ht)) (up_subl _ _) hx (fun S hS hT => ⟨fun i h => ?_, hS.2⟩))) (fun _ => same)) (fun _ => same)
  rcases up_ort.mp h with g | g
  · exact hS.1 i g
  · obtain ⟨j, j1, j2⟩ := hT
    obtain ⟨q, hq⟩ := up_sg hn (up_inand ht) z z3
    have jr : up_b rf j = false := up_ff (fun e => up_tf j2 (hS.2 j e))
    have jq := (hq j).mp ((up_difb _ _ _).mpr ⟨j1, jr⟩)
    have iq := (hq i).mp g
    rw [iq, ← jq]; exact j2

theorem up_names {post : Int32 → St1 → Prop} {pc ins wc rd wn un ch rf ct fd bs bc : Int32} {a1 a2 a3 a4 a5 a6 a7 a8 a9 a10 a11 a12 a13 a14 a15 a16 a17 a18 : Nat → Int32} {n : Nat} (tb : up_tb n a4 a11 a12 a13) (hc : up_in n ch) (hr : up_in n rf)
    (H0 : ∀ c r, (∀ S, (up_rt n a4 a11 a12 a13 wn un) S → ¬ up_con ch rf S) → post 0 (pc, ins, wc, rd, wn, un, c, r, ct, fd, bs, bc, a1, a2, a3, a4, a5, a6, a7, a8, a9, a10, a11, a12, a13, a14, a15, a16, a17, a18))
    (H1 : ∀ c r, up_st (up_rt n a4 a11 a12 a13 wn un) n ch rf c r → up_dj c r → (c = ch → r = rf → ∀ m, m < 5 → up_ckN a13 wn un rf m) → post 1 (pc, ins, wc, rd, wn, un, c, r, ct, fd, bs, bc, a1, a2, a3, a4, a5, a6, a7, a8, a9, a10, a11, a12, a13, a14, a15, a16, a17, a18)) :
    wpX_propagateNames post (pc, ins, wc, rd, wn, un, ch, rf, ct, fd, bs, bc, a1, a2, a3, a4, a5, a6, a7, a8, a9, a10, a11, a12, a13, a14, a15, a16, a17, a18) := by
  unfold wpX_propagateNames
  refine pk_loop (σ := Int32 × Int32) (fun f i s => wX_propagateNames_2 post f (nI i) pc ins wc rd wn un s.1 s.2 ct fd bs bc a1 a2 a3 a4 a5 a6 a7 a8 a9 a10 a11 a12 a13 a14 a15 a16 a17 a18)
    (fun i s => up_st (up_rt n a4 a11 a12 a13 wn un) n ch rf s.1 s.2 ∧ (s.1 = ch → s.2 = rf → ∀ m, m < i → up_ckN a13 wn un rf m)) 5 0 (ch, rf) (by omega) ⟨up_st_r hc hr, fun _ _ m hm => absurd hm (by omega)⟩ ?_ ?_
  · intro f s hI
    obtain ⟨c, r⟩ := s
    obtain ⟨hs, hk⟩ := hI
    exact pk_le 5 5 (fun _ => br_c (fun z => H1 c r hs (up_andz.mp z) hk) (fun z => H0 c r (up_st_c hs z))) (fun z => absurd z (by omega))
  · intro f i s hi hI hw
    obtain ⟨c, r⟩ := s
    obtain ⟨hs, hk⟩ := hI
    have e : (nI i).toNatClampNeg = i := nI_clamp (by omega)
    have main : ∀ r1, up_st (up_rt n a4 a11 a12 a13 wn un) n ch rf c r1 → (c = ch → r1 = rf → (∀ m, m < i → up_ckN a13 wn un rf m) ∧ (up_b un i = true → up_sub (a13 i) rf)) → wX_propagateNames_33 post (wX_propagateNames_2 post f) (nI i) pc ins wc rd wn un c r1 ct fd bs bc a1 a2 a3 a4 a5 a6 a7 a8 a9 a10 a11 a12 a13 a14 a15 a16 a17 a18 := by
      intro r1 hs1 hk1
      unfold wX_propagateNames_33
      refine br_c (fun z => nm_r (nI_1 i) (hw (c, r1) ⟨hs1, fun e1 e2 m hm => ?_⟩)) (fun z => ⟨pk_in i 5 hi, ?_⟩)
      · have wf := (up_tst wn i (by omega)).mp z
        rcases Nat.lt_or_ge m i with g | g
        · exact (hk1 e1 e2).1 m g
        · have em : m = i := by omega
          subst em
          exact ⟨fun w => absurd wf (fun q => up_tf w q), (hk1 e1 e2).2⟩
      · have wt := up_tt (fun q => z ((up_tst wn i (by omega)).mpr q))
        have ht : up_in n (a13 (nI i).toNatClampNeg) := by rw [e]; exact tb.2.2.2.2 i hi
        refine up_demand tb.1 ht hs1.1 (fun hsub => br_t rfl (H0 c r1 (up_st_n hs1 (fun S hS hcon => ?_)))) (fun c' hc' hsubc hex hcon => br_f (by decide) (nm_r (nI_1 i) (hw (c', r1) ⟨up_st_t hs1 ⟨hc', hs1.2.1, hsubc, up_subr r1, fun S hS hcs => hcon S hcs ?_⟩, fun e1 e2 m hm => ?_⟩)))
        · rw [e] at hsub
          obtain ⟨j, j1, j2⟩ := (hS.2.2 i hi).1 wt
          exact up_tf j2 (hcon.2 j (hsub j j1))
        · rw [e]; exact (hS.2.2 i hi).1 wt
        · have e1' : c' = ch := e1
          have e2' : r1 = rf := e2
          have ec : c = ch := up_suba (by rw [← e1']; exact hsubc) hs1.2.2.1
          rcases Nat.lt_or_ge m i with g | g
          · exact (hk1 ec e2').1 m g
          · have em : m = i := by omega
            subst em
            rw [e, e2'] at hex
            exact ⟨fun _ => hex, (hk1 ec e2').2⟩
    refine pk_le 5 i (fun z => absurd z (by omega)) (fun _ => br_c (fun z => main r hs (fun e1 e2 => ⟨hk e1 e2, fun hu => ?_⟩)) (fun z => ⟨pk_in i 5 hi, nm_r (by rw [e]) (main (r ||| a13 i) (up_st_t hs ⟨hs.1, up_inor hs.2.1 (tb.2.2.2.2 i hi), up_subr c, up_subl _ _, fun S hS hcon => ⟨hcon.1, fun j hj => ?_⟩⟩) (fun e1 e2 => ?_))⟩))
    · have uf := (up_tst un i (by omega)).mp z
      exact absurd uf (fun q => up_tf hu q)
    · have ut := up_tt (fun q => z ((up_tst un i (by omega)).mpr q))
      rcases up_ort.mp hj with g | g
      · exact hcon.2 j g
      · exact (hS.2.2 i hi).2 ut j g
    · have er : r = rf := up_suba (by rw [← e2]; exact up_subl _ _) hs.2.2.2.1
      refine ⟨hk e1 er, fun _ => ?_⟩
      rw [er] at e2
      exact up_subo e2

theorem up_pk0 {post : Int32 → St1 → Prop} {pc ins wc rd wn un ch rf ct fd bs bc : Int32} {a1 a2 a3 a4 a5 a6 a7 a8 a9 a10 a11 a12 a13 a14 a15 a16 a17 a18 : Nat → Int32} {n p : Nat} (tb : up_tb n a4 a11 a12 a13) (hp : p < n) (hc : up_in n ch) (hr : up_in n rf) (hin : up_b ch p = false)
    (H0 : ∀ c r, (∀ S, (up_rt n a4 a11 a12 a13 wn un) S → ¬ up_con ch rf S) → post 0 (pc, ins, wc, rd, wn, un, c, r, ct, fd, bs, bc, a1, a2, a3, a4, a5, a6, a7, a8, a9, a10, a11, a12, a13, a14, a15, a16, a17, a18))
    (H1 : ∀ c r, up_st (up_rt n a4 a11 a12 a13 wn un) n ch rf c r → up_dj c r → (c = ch → r = rf → up_ckP a4 a11 a12 ch rf p) → post 1 (pc, ins, wc, rd, wn, un, c, r, ct, fd, bs, bc, a1, a2, a3, a4, a5, a6, a7, a8, a9, a10, a11, a12, a13, a14, a15, a16, a17, a18)) :
    ∃ fu : Nat, wX_propagatePackage_38 post (nI p) 0 fu 0 pc ins wc rd wn un ch rf ct fd bs bc a1 a2 a3 a4 a5 a6 a7 a8 a9 a10 a11 a12 a13 a14 a15 a16 a17 a18 := by
  have hn := tb.1
  have e : (nI p).toNatClampNeg = p := nI_clamp (by omega)
  obtain ⟨j, hj, ej⟩ := tb.2.1 p hp
  have e4 : a4 (nI p).toNatClampNeg = nI j := by rw [e, ej]
  have ec : (a4 p).toNatClampNeg = j := up_clI (by omega) ej
  refine pk_loop (σ := Int32) (fun f i s => wX_propagatePackage_38 post (nI p) 0 f (nI i) pc ins wc rd wn un ch s ct fd bs bc a1 a2 a3 a4 a5 a6 a7 a8 a9 a10 a11 a12 a13 a14 a15 a16 a17 a18) (fun i s => up_st (up_rt n a4 a11 a12 a13 wn un) n ch rf ch s) j 0 rf (by omega) (up_st_r hc hr) ?_ ?_
  · intro f r hs
    exact ⟨pk_in p 10 (by omega), pk_le j j (fun _ => br_c (fun z => H1 ch r hs (up_andz.mp z) (fun _ _ h => absurd hin (fun q => up_tf h q))) (fun z => H0 ch r (up_st_c hs z))) (fun z => absurd z (by omega)) (hx := e4)⟩
  · intro f i r hi hs hw
    have e11 : a11 ((2 * nI p) + nI i).toNatClampNeg = a11 (2 * p + i) := by rw [up_ix, nI_clamp (by omega)]
    refine ⟨pk_in p 10 (by omega), pk_le j i (fun z => absurd z (by omega)) (fun _ => ⟨pk_in (2 * p + i) 20 (by omega) (hx := up_ix p i), nm_r e11 (br_t rfl (br_c (fun z => nm_e (nm_r (nI_1 i) (hw _ ?_))) (fun z => nm_r (nI_1 i) (hw r hs))))⟩) (hx := e4)⟩
    refine up_st_t hs ⟨hc, up_inor hs.2.1 (up_inone hp hn), up_subr ch, up_subl _ _, fun S hS hcon => ⟨hcon.1, fun b hb => ?_⟩⟩
    rcases up_ort.mp hb with g | g
    · exact hcon.2 b g
    · have eb := (up_onet (by omega)).mp g
      subst eb
      refine up_ff (fun hSp => ?_)
      obtain ⟨x, x1, x2⟩ := (hS.2.1 b hp hSp).2 i (by rw [ec]; exact hi)
      exact up_tf x2 (hcon.2 x (up_dif.mp z x x1))

theorem up_pk1 {post : Int32 → St1 → Prop} {pc ins wc rd wn un ch rf ct fd bs bc : Int32} {a1 a2 a3 a4 a5 a6 a7 a8 a9 a10 a11 a12 a13 a14 a15 a16 a17 a18 : Nat → Int32} {n p : Nat} (tb : up_tb n a4 a11 a12 a13) (hp : p < n) (hc : up_in n ch) (hr : up_in n rf) (hin : up_b ch p = true)
    (H0 : ∀ c r, (∀ S, (up_rt n a4 a11 a12 a13 wn un) S → ¬ up_con ch rf S) → post 0 (pc, ins, wc, rd, wn, un, c, r, ct, fd, bs, bc, a1, a2, a3, a4, a5, a6, a7, a8, a9, a10, a11, a12, a13, a14, a15, a16, a17, a18))
    (H1 : ∀ c r, up_st (up_rt n a4 a11 a12 a13 wn un) n ch rf c r → up_dj c r → (c = ch → r = rf → up_ckP a4 a11 a12 ch rf p) → post 1 (pc, ins, wc, rd, wn, un, c, r, ct, fd, bs, bc, a1, a2, a3, a4, a5, a6, a7, a8, a9, a10, a11, a12, a13, a14, a15, a16, a17, a18)) :
    ∃ fu : Nat, wX_propagatePackage_38 post (nI p) 1 fu 0 pc ins wc rd wn un ch ((rf ||| a12 p)) ct fd bs bc a1 a2 a3 a4 a5 a6 a7 a8 a9 a10 a11 a12 a13 a14 a15 a16 a17 a18 := by
  have hn := tb.1
  have e : (nI p).toNatClampNeg = p := nI_clamp (by omega)
  obtain ⟨j, hj, ej⟩ := tb.2.1 p hp
  have e4 : a4 (nI p).toNatClampNeg = nI j := by rw [e, ej]
  have ec : (a4 p).toNatClampNeg = j := up_clI (by omega) ej
  have hs0 : up_st (up_rt n a4 a11 a12 a13 wn un) n ch rf ch (rf ||| a12 p) := by
    refine ⟨hc, up_inor hr (tb.2.2.2.1 p hp), up_subr ch, up_subl _ _, fun S hS hcon => ⟨hcon.1, fun b hb => ?_⟩⟩
    rcases up_ort.mp hb with g | g
    · exact hcon.2 b g
    · exact (hS.2.1 p hp (hcon.1 p hin)).1 b g
  refine pk_loop (σ := Int32) (fun f i s => wX_propagatePackage_38 post (nI p) 1 f (nI i) pc ins wc rd wn un s ((rf ||| a12 p)) ct fd bs bc a1 a2 a3 a4 a5 a6 a7 a8 a9 a10 a11 a12 a13 a14 a15 a16 a17 a18) (fun i s => up_st (up_rt n a4 a11 a12 a13 wn un) n ch rf s (rf ||| a12 p) ∧ ∀ k, k < i → ∃ b, up_b (a11 (2 * p + k)) b = true ∧ up_b (rf ||| a12 p) b = false) j 0 ch (by omega) ⟨hs0, fun k hk => absurd hk (by omega)⟩ ?_ ?_
  · intro f c hI
    obtain ⟨hs, hk⟩ := hI
    refine ⟨pk_in p 10 (by omega), pk_le j j (fun _ => br_c (fun z => H1 c _ hs (up_andz.mp z) (fun e1 e2 h => ⟨up_subo e2, fun k hk' => ?_⟩)) (fun z => H0 c _ (up_st_c hs z))) (fun z => absurd z (by omega)) (hx := e4)⟩
    rw [ec] at hk'
    have := hk k hk'
    rw [e2] at this
    exact this
  · intro f i c hi hI hw
    obtain ⟨hs, hk⟩ := hI
    have e11 : a11 ((2 * nI p) + nI i).toNatClampNeg = a11 (2 * p + i) := by rw [up_ix, nI_clamp (by omega)]
    have ht : up_in n (a11 (2 * p + i)) := tb.2.2.1 p hp i (by rw [ec]; exact hi)
    have hSx : ∀ S, (up_rt n a4 a11 a12 a13 wn un) S → up_con c (rf ||| a12 p) S → ∃ b, up_b (a11 (2 * p + i)) b = true ∧ up_b S b = true := fun S hS hcon => (hS.2.1 p hp (hcon.1 p (hs.2.2.1 p hin))).2 i (by rw [ec]; exact hi)
    refine ⟨pk_in p 10 (by omega), pk_le j i (fun z => absurd z (by omega)) (fun _ => ⟨pk_in (2 * p + i) 20 (by omega) (hx := up_ix p i), nm_r e11 (br_f (by decide) ?_)⟩) (hx := e4)⟩
    refine up_demand hn ht hs.1 (fun hsub => br_t rfl (H0 c _ (up_st_n hs (fun S hS hcon => ?_)))) (fun c' hc' hsubc hex hcon => br_f (by decide) (nm_r (nI_1 i) (hw c' ⟨up_st_t hs ⟨hc', hs.2.1, hsubc, up_subr _, fun S hS hcs => hcon S hcs (hSx S hS hcs)⟩, fun k hk' => ?_⟩)))
    · obtain ⟨x, x1, x2⟩ := hSx S hS hcon
      exact up_tf x2 (hcon.2 x (hsub x x1))
    · rcases Nat.lt_or_ge k i with g | g
      · exact hk k g
      · have ek : k = i := by omega
        subst ek
        exact hex

theorem up_pack {post : Int32 → St1 → Prop} {pc ins wc rd wn un ch rf ct fd bs bc : Int32} {a1 a2 a3 a4 a5 a6 a7 a8 a9 a10 a11 a12 a13 a14 a15 a16 a17 a18 : Nat → Int32} {n p : Nat} (tb : up_tb n a4 a11 a12 a13) (hp : p < n) (hc : up_in n ch) (hr : up_in n rf)
    (H0 : ∀ c r, (∀ S, (up_rt n a4 a11 a12 a13 wn un) S → ¬ up_con ch rf S) → post 0 (pc, ins, wc, rd, wn, un, c, r, ct, fd, bs, bc, a1, a2, a3, a4, a5, a6, a7, a8, a9, a10, a11, a12, a13, a14, a15, a16, a17, a18))
    (H1 : ∀ c r, up_st (up_rt n a4 a11 a12 a13 wn un) n ch rf c r → up_dj c r → (c = ch → r = rf → up_ckP a4 a11 a12 ch rf p) → post 1 (pc, ins, wc, rd, wn, un, c, r, ct, fd, bs, bc, a1, a2, a3, a4, a5, a6, a7, a8, a9, a10, a11, a12, a13, a14, a15, a16, a17, a18)) :
    wpX_propagatePackage post (pc, ins, wc, rd, wn, un, ch, rf, ct, fd, bs, bc, a1, a2, a3, a4, a5, a6, a7, a8, a9, a10, a11, a12, a13, a14, a15, a16, a17, a18) (nI p) := by
  have hn := tb.1
  unfold wpX_propagatePackage
  refine br_c (fun z => ?_) (fun z => ?_)
  · unfold wX_propagatePackage_16
    exact br_t rfl (up_pk0 tb hp hc hr ((up_tst ch p (by omega)).mp z) H0 H1)
  · unfold wX_propagatePackage_16
    exact br_f (by decide) ⟨pk_in p 10 (by omega), nm_r (by rw [nI_clamp (show p < 2 ^ 31 by omega)]) (up_pk1 tb hp hc hr (up_tt (fun q => z ((up_tst ch p (by omega)).mpr q))) H0 H1)⟩

theorem up_p50 {post : Int32 → St1 → Prop} {J4 : Int32 → Int32 → Int32 → Int32 → Int32 → Int32 → Int32 → Int32 → Int32 → Int32 → Int32 → Int32 → Int32 → Int32 → (Nat → Int32) → (Nat → Int32) → (Nat → Int32) → (Nat → Int32) → (Nat → Int32) → (Nat → Int32) → (Nat → Int32) → (Nat → Int32) → (Nat → Int32) → (Nat → Int32) → (Nat → Int32) → (Nat → Int32) → (Nat → Int32) → (Nat → Int32) → (Nat → Int32) → (Nat → Int32) → (Nat → Int32) → (Nat → Int32) → Prop} {pc ins wc rd wn un ch rf ct fd bs bc : Int32} {a1 a2 a3 a4 a5 a6 a7 a8 a9 a10 a11 a12 a13 a14 a15 a16 a17 a18 : Nat → Int32} {n k : Nat} {x1 : Int32} (hpc : pc = nI n) (tb : up_tb n a4 a11 a12 a13) (hc : up_in n ch) (hr : up_in n rf) (hd : up_dj ch rf)
    (H0 : ∀ c r, (∀ S, (up_rt n a4 a11 a12 a13 wn un) S → ¬ up_con ch rf S) → post 0 (pc, ins, wc, rd, wn, un, c, r, ct, fd, bs, bc, a1, a2, a3, a4, a5, a6, a7, a8, a9, a10, a11, a12, a13, a14, a15, a16, a17, a18))
    (HJ : ∀ c r, up_st (up_rt n a4 a11 a12 a13 wn un) n ch rf c r → up_dj c r → (c = ch → r = rf → ∀ p, p < n → up_ckP a4 a11 a12 ch rf p) → J4 x1 (nI (k + 1)) pc ins wc rd wn un c r ct fd bs bc a1 a2 a3 a4 a5 a6 a7 a8 a9 a10 a11 a12 a13 a14 a15 a16 a17 a18) :
    ∃ fu : Nat, wX_propagate_50 post J4 x1 (nI k) fu 0 pc ins wc rd wn un ch rf ct fd bs bc a1 a2 a3 a4 a5 a6 a7 a8 a9 a10 a11 a12 a13 a14 a15 a16 a17 a18 := by
  have hn := tb.1
  refine pk_loop (σ := Int32 × Int32) (fun f i s => wX_propagate_50 post J4 x1 (nI k) f (nI i) pc ins wc rd wn un s.1 s.2 ct fd bs bc a1 a2 a3 a4 a5 a6 a7 a8 a9 a10 a11 a12 a13 a14 a15 a16 a17 a18)
    (fun i s => up_st (up_rt n a4 a11 a12 a13 wn un) n ch rf s.1 s.2 ∧ up_dj s.1 s.2 ∧ (s.1 = ch → s.2 = rf → ∀ p, p < i → up_ckP a4 a11 a12 ch rf p)) n 0 (ch, rf) (by omega) ⟨up_st_r hc hr, hd, fun _ _ p hp => absurd hp (by omega)⟩ ?_ ?_
  · intro f s hI
    obtain ⟨c, r⟩ := s
    obtain ⟨hs, hd', hk⟩ := hI
    exact pk_le n n (fun _ => nm_r (nI_1 k) (HJ c r hs hd' hk)) (fun z => absurd z (by omega)) (hx := hpc)
  · intro f i s hi hI hw
    obtain ⟨c, r⟩ := s
    obtain ⟨hs, hd', hk⟩ := hI
    refine pk_le n i (fun z => absurd z (by omega)) (fun _ => up_pack tb hi hs.1 hs.2.1 (fun c' r' hno => br_t rfl (H0 c' r' (up_st_n hs hno))) (fun c' r' hs' hd2 hk' => br_f (by decide) (nm_r (nI_1 i) (hw (c', r') ⟨up_st_t hs hs', hd2, fun e1 e2 p hp => ?_⟩)))) (hx := hpc)
    have e1' : c' = ch := e1
    have e2' : r' = rf := e2
    have ec : c = ch := up_suba (by rw [← e1']; exact hs'.2.2.1) hs.2.2.1
    have er : r = rf := up_suba (by rw [← e2']; exact hs'.2.2.2.1) hs.2.2.2.1
    rcases Nat.lt_or_ge p i with g | g
    · exact hk ec er p g
    · have ep : p = i := by omega
      subst ep
      have := hk' (by rw [e1', ec]) (by rw [e2', er])
      rw [ec, er] at this
      exact this

/-- the invariant of propagate's rounds -/
def up_PI (R : Int32 → Prop) (K : Int32 → Int32 → Prop) (n : Nat) (c0 r0 x : Int32) (k : Nat) (c r : Int32) : Prop :=
  up_st R n c0 r0 c r ∧ ((k = 0 ∧ x = -1) ∨ ∃ cp rp, x = cp ||| (rp <<< ((10 : Int32) &&& 31)) ∧ up_in n cp ∧ up_in n rp ∧ up_sub cp c ∧ up_sub rp r ∧ up_dj c r ∧ k ≤ 1 + up_pp (cp ||| rp) n ∧ (c = cp → r = rp → K c r))

theorem up_prop {post : Int32 → St1 → Prop} {pc ins wc rd wn un ch rf ct fd bs bc : Int32} {a1 a2 a3 a4 a5 a6 a7 a8 a9 a10 a11 a12 a13 a14 a15 a16 a17 a18 : Nat → Int32} {n : Nat} (hpc : pc = nI n) (tb : up_tb n a4 a11 a12 a13) (hc : up_in n ch) (hr : up_in n rf)
    (H0 : ∀ c r, (∀ S, (up_rt n a4 a11 a12 a13 wn un) S → ¬ up_con ch rf S) → post 0 (pc, ins, wc, rd, wn, un, c, r, ct, fd, bs, bc, a1, a2, a3, a4, a5, a6, a7, a8, a9, a10, a11, a12, a13, a14, a15, a16, a17, a18))
    (H1 : ∀ c r, up_st (up_rt n a4 a11 a12 a13 wn un) n ch rf c r → up_dj c r → up_ck n a4 a11 a12 a13 wn un c r → post 1 (pc, ins, wc, rd, wn, un, c, r, ct, fd, bs, bc, a1, a2, a3, a4, a5, a6, a7, a8, a9, a10, a11, a12, a13, a14, a15, a16, a17, a18)) :
    wpX_propagate post (pc, ins, wc, rd, wn, un, ch, rf, ct, fd, bs, bc, a1, a2, a3, a4, a5, a6, a7, a8, a9, a10, a11, a12, a13, a14, a15, a16, a17, a18) := by
  have hn := tb.1
  unfold wpX_propagate
  refine loop_m (σ := Int32 × Nat × Int32 × Int32) (fun f s => wX_propagate_4 post f s.1 (nI s.2.1) pc ins wc rd wn un s.2.2.1 s.2.2.2 ct fd bs bc a1 a2 a3 a4 a5 a6 a7 a8 a9 a10 a11 a12 a13 a14 a15 a16 a17 a18)
    (fun s => up_PI (up_rt n a4 a11 a12 a13 wn un) (up_ck n a4 a11 a12 a13 wn un) n ch rf s.1 s.2.1 s.2.2.1 s.2.2.2) (fun s => 12 - s.2.1) ?_ (-1, 0, ch, rf) ⟨up_st_r hc hr, Or.inl ⟨rfl, rfl⟩⟩
  intro f s hI hw
  obtain ⟨x, k, c, r⟩ := s
  obtain ⟨hs, hI⟩ := hI
  have hs : up_st (up_rt n a4 a11 a12 a13 wn un) n ch rf c r := hs
  have hI : ((k = 0 ∧ x = -1) ∨ ∃ cp rp, x = cp ||| (rp <<< ((10 : Int32) &&& 31)) ∧ up_in n cp ∧ up_in n rp ∧ up_sub cp c ∧ up_sub rp r ∧ up_dj c r ∧ k ≤ 1 + up_pp (cp ||| rp) n ∧ (c = cp → r = rp → up_ck n a4 a11 a12 a13 wn un c r)) := hI
  have hk : k ≤ 11 := by
    rcases hI with ⟨h, _⟩ | ⟨cp, rp, _, _, _, _, _, _, h, _⟩
    · omega
    · have := up_pp_le (cp ||| rp) n
      omega
  have hc10 := up_inmono hn hs.1
  have hr10 := up_inmono hn hs.2.1
  refine pk_le 12 k (fun z => absurd z (by omega)) (fun _ => br_c (fun z => ?_) (fun z => nm_e ?_))
  · have z : x = c ||| (r <<< ((10 : Int32) &&& 31)) := z
    rcases hI with ⟨_, h⟩ | ⟨cp, rp, hx, h1, h2, _, _, h5, _, h7⟩
    · rw [h] at z
      exact absurd z (up_encm hc10 hr10)
    · rw [hx] at z
      obtain ⟨g1, g2⟩ := up_enc (up_inmono hn h1) (up_inmono hn h2) hc10 hr10 z
      exact H1 c r hs h5 (h7 g1.symm g2.symm)
  · have z : ¬ x = c ||| (r <<< ((10 : Int32) &&& 31)) := z
    have hkp : k ≤ up_pp (c ||| r) n := by
      rcases hI with ⟨h, _⟩ | ⟨cp, rp, hx, h1, h2, h3, h4, h5, h6, _⟩
      · omega
      · have := up_grow hs.1 hs.2.1 h3 h4 h5 (fun g => z (by rw [hx, g.1, g.2]))
        omega
    refine up_names tb hs.1 hs.2.1 (fun c1 r1 hno => br_t rfl (H0 c1 r1 (up_st_n hs hno))) (fun c1 r1 s1 d1 k1 => br_f (by decide) ?_)
    refine up_p50 hpc tb s1.1 s1.2.1 d1 (fun c2 r2 hno => H0 c2 r2 (up_st_n hs (up_st_n s1 hno))) (fun c2 r2 s2 d2 k2 => ?_)
    refine hw (_, k + 1, c2, r2) ⟨up_st_t hs (up_st_t s1 s2), Or.inr ⟨c, r, rfl, hs.1, hs.2.1, up_subt s1.2.2.1 s2.2.2.1, up_subt s1.2.2.2.1 s2.2.2.2.1, d2, ?_, fun e1 e2 => ?_⟩⟩ ?_
    · show k + 1 ≤ 1 + _
      omega
    · have e1 : c2 = c := e1
      have e2 : r2 = r := e2
      have f1 : c1 = c := up_suba (by rw [← e1]; exact s2.2.2.1) s1.2.2.1
      have f2 : r1 = r := up_suba (by rw [← e2]; exact s2.2.2.2.1) s1.2.2.2.1
      have q1 := k1 f1 f2
      have q2 := k2 (by rw [e1, f1]) (by rw [e2, f2])
      show up_ck n a4 a11 a12 a13 wn un c2 r2
      rw [e1, e2]
      rw [f1, f2] at q2
      exact ⟨q1, q2⟩
    · show 12 - (k + 1) < 12 - k
      omega
end
section
/-! the walk of lowestCost and finish -/
theorem up_costn : ∀ l, l < 6 → ∀ m, m < 11 → ∀ b, b < 6 → (((nI l <<< ((8 : Int32) &&& 31)) ||| (nI m <<< ((4 : Int32) &&& 31))) ||| nI b) = nI (256 * l + 16 * m + b) := by decide +kernel
theorem up_bit1 (x : Int32) (p : Nat) (hp : p < 32) : ((x >>> (nI p &&& 31)) &&& 1) = nI (if up_b x p = true then 1 else 0) := by
  by_cases h : up_b x p = true
  · rw [if_pos h]
    apply up_ext
    intro i
    show up_b ((x >>> (nI p &&& 31)) &&& 1) i = up_b 1 i
    rw [up_and, up_1]
    by_cases g : i = 0
    · subst g
      rw [up_sshr p hp x (by omega), if_pos (by omega), Nat.add_zero, h]; rfl
    · rw [decide_eq_false g, Bool.and_false]
  · rw [if_neg h]
    exact (up_tst x p hp).mpr (up_ff h)
theorem up_pp0 (n : Nat) : up_pp 0 n = 0 := by
  induction n with
  | zero => rfl
  | succ n ih => unfold up_pp; rw [ih, up_0]; rfl
theorem up_c107 {post : Int32 → Prop} {x1 x2 x3 : Int32} {pc ins wc rd wn un ch rf ct fd bs bc : Int32} {a1 a2 a3 a4 a5 a6 a7 a8 a9 a10 a11 a12 a13 a14 a15 a16 a17 a18 : Nat → Int32} (H : post (((x1 <<< ((8 : Int32) &&& 31)) ||| (nI (up_pp x3 10) <<< ((4 : Int32) &&& 31))) ||| x2)) :
    ∃ fu : Nat, wX_lowestCost_107 post x1 x2 x3 pc ins wc rd wn un ch rf ct fd bs bc a1 a2 a3 a4 a5 a6 a7 a8 a9 a10 a11 a12 a13 a14 a15 a16 a17 a18 fu 0 0 :=
  pk_loop (σ := Unit) (fun f i _ => wX_lowestCost_107 post x1 x2 x3 pc ins wc rd wn un ch rf ct fd bs bc a1 a2 a3 a4 a5 a6 a7 a8 a9 a10 a11 a12 a13 a14 a15 a16 a17 a18 f (nI (up_pp x3 i)) (nI i)) (fun _ _ => True) 10 0 () (by omega) trivial
    (fun f _ _ => pk_le 10 10 (fun _ => H) (fun z => absurd z (by omega)))
    (fun f i _ hi _ hw => pk_le 10 i (fun z => absurd z (by omega)) (fun _ => nm_r (show nI (up_pp x3 i) + ((x3 >>> (nI i &&& 31)) &&& 1) = nI (up_pp x3 (i + 1)) by rw [up_bit1 x3 i (by omega), nI_add]; rfl) (nm_r (nI_1 i) (hw () trivial))))
theorem up_cost {post : Int32 → Prop} {pc ins wc rd wn un ch rf ct fd bs bc : Int32} {a1 a2 a3 a4 a5 a6 a7 a8 a9 a10 a11 a12 a13 a14 a15 a16 a17 a18 : Nat → Int32}
    (H : ∀ v, v < 4096 → (up_con ch rf ins → v < 16) → (∀ i, i < 10 → ((up_b ch i = true ∧ up_b ins i = false) ∨ (up_b rf i = true ∧ up_b ins i = true)) → 16 ≤ v) → post (nI v)) :
    wpX_lowestCost post (pc, ins, wc, rd, wn, un, ch, rf, ct, fd, bs, bc, a1, a2, a3, a4, a5, a6, a7, a8, a9, a10, a11, a12, a13, a14, a15, a16, a17, a18) := by
  unfold wpX_lowestCost
  refine pk_loop (σ := Nat × Nat) (fun f i s => wX_lowestCost_6 post pc ins wc rd wn un ch rf ct fd bs bc a1 a2 a3 a4 a5 a6 a7 a8 a9 a10 a11 a12 a13 a14 a15 a16 a17 a18 f (nI s.1) (nI s.2) (nI i)) (fun i s => s.1 ≤ i ∧ s.2 ≤ i ∧ (up_con ch rf ins → s.1 = 0)) 5 0 (0, 0) (by omega) ⟨Nat.le_refl 0, Nat.le_refl 0, fun _ => rfl⟩ ?_ ?_
  · intro f s hI
    obtain ⟨l, b⟩ := s
    obtain ⟨hl, hb, h0⟩ := hI
    have hl : l ≤ 5 := hl
    have hb : b ≤ 5 := hb
    have h0 : up_con ch rf ins → l = 0 := h0
    refine pk_le 5 5 (fun _ => nm_e (up_c107 ?_)) (fun z => absurd z (by omega))
    have hm := up_pp_le ((ch &&& (ins ^^^ (-1))) ||| (rf &&& ins)) 10
    have mm : ∀ i, up_b ((ch &&& (ins ^^^ (-1))) ||| (rf &&& ins)) i = true ↔ (up_b ch i = true ∧ up_b ins i = false) ∨ (up_b rf i = true ∧ up_b ins i = true) := by
      intro i
      rw [up_ort, up_difb, up_and, Bool.and_eq_true]
    show post (((nI l <<< ((8 : Int32) &&& 31)) ||| (nI (up_pp ((ch &&& (ins ^^^ (-1))) ||| (rf &&& ins)) 10) <<< ((4 : Int32) &&& 31))) ||| nI b)
    rw [up_costn l (by omega) _ (by omega) b (by omega)]
    refine H _ (by omega) (fun hcon => ?_) (fun i hi hx => ?_)
    · have e : (ch &&& (ins ^^^ (-1))) ||| (rf &&& ins) = 0 := by
        refine up_z.mpr (fun i => up_ff (fun g => ?_))
        rcases (mm i).mp g with g | g
        · exact up_tf (hcon.1 i g.1) g.2
        · exact up_tf g.2 (hcon.2 i g.1)
      rw [e, up_pp0, h0 hcon]
      omega
    · have := up_pp_lt (x := 0) (y := (ch &&& (ins ^^^ (-1))) ||| (rf &&& ins)) (fun j hj => absurd hj (by rw [up_0]; decide)) (up_0 i) ((mm i).mpr hx) 10 hi
      omega
  · intro f i s hi hI hw
    obtain ⟨l, b⟩ := s
    obtain ⟨hl, hb, h0⟩ := hI
    have hl : l ≤ i := hl
    have hb : b ≤ i := hb
    have h0 : up_con ch rf ins → l = 0 := h0
    have m44 : ∀ l', l' ≤ i + 1 → (up_con ch rf ins → l' = 0) → ∀ x4, wX_lowestCost_44 post (wX_lowestCost_6 post pc ins wc rd wn un ch rf ct fd bs bc a1 a2 a3 a4 a5 a6 a7 a8 a9 a10 a11 a12 a13 a14 a15 a16 a17 a18 f) (nI l') (nI b) (nI i) x4 pc ins wc rd wn un ch rf ct fd bs bc a1 a2 a3 a4 a5 a6 a7 a8 a9 a10 a11 a12 a13 a14 a15 a16 a17 a18 := by
      intro l' hl' h0' x4
      unfold wX_lowestCost_44
      have a : wX_lowestCost_6 post pc ins wc rd wn un ch rf ct fd bs bc a1 a2 a3 a4 a5 a6 a7 a8 a9 a10 a11 a12 a13 a14 a15 a16 a17 a18 f (nI l') (nI b) (nI (i + 1)) := hw (l', b) ⟨hl', by show b ≤ i + 1; omega, h0'⟩
      have a' : wX_lowestCost_6 post pc ins wc rd wn un ch rf ct fd bs bc a1 a2 a3 a4 a5 a6 a7 a8 a9 a10 a11 a12 a13 a14 a15 a16 a17 a18 f (nI l') (nI (b + 1)) (nI (i + 1)) := hw (l', b + 1) ⟨hl', by show b + 1 ≤ i + 1; omega, h0'⟩
      exact br_c (fun _ => nm_r (nI_1 i) a) (fun _ => ⟨pk_in i 5 hi, br_c (fun _ => nm_r (nI_1 i) a) (fun _ => nm_r (nI_1 b) (nm_r (nI_1 i) a'))⟩)
    refine pk_le 5 i (fun z => absurd z (by omega)) (fun _ => ⟨pk_in i 5 hi, nm_e (br_c (fun _ => m44 l (by omega) h0 _) (fun z => br_c (fun z2 => nm_r (nI_1 l) (m44 (l + 1) (by omega) (fun hcon => ?_) _)) (fun _ => m44 l (by omega) h0 _)))⟩)
    exfalso
    obtain ⟨j, j1, j2⟩ := up_andnz z
    exact up_tf j2 (hcon.2 j (up_dif.mp z2 j j1))

theorem up_m3 {n : Nat} (hn : n ≤ 10) {x : Int32} (h : up_in n x) : x ≠ -3 := by
  intro e
  have := h 31 (by rw [e]; decide +kernel)
  omega
/-- what has been found: nothing, or a right set and its cost -/
def up_best (R : Int32 → Prop) (ins : Int32) (k : Nat) (bs bc : Int32) : Prop :=
  (k = 0 ∧ bs = -3 ∧ bc = 4096) ∨ (0 < k ∧ R bs ∧ ∃ v, v < 4096 ∧ bc = nI v ∧ (bs = ins → v < 16) ∧ (bs ≠ ins → 16 ≤ v))
def up_done (ins bs S : Int32) : Prop := bs ≠ -3 ∧ (S = ins → bs = S)

theorem up_finish {post : St1 → Prop} {pc ins wc rd wn un ch rf ct fd bs bc : Int32} {a1 a2 a3 a4 a5 a6 a7 a8 a9 a10 a11 a12 a13 a14 a15 a16 a17 a18 : Nat → Int32} {R : Int32 → Prop} {n k : Nat} (hn : n ≤ 10) (hfd : fd = nI k) (hin : up_in n ins) (hc : up_in n ch) (hd : up_dj ch rf) (hf : ∀ i, i < n → up_b ch i = true ∨ up_b rf i = true)
    (hRn : ∀ S, R S → up_in n S) (hR : R ch) (hb : up_best R ins k bs bc)
    (H : ∀ bs' bc', up_best R ins (k + 1) bs' bc' → (∀ S, up_done ins bs S → up_done ins bs' S) → up_done ins bs' ch → post (pc, ins, wc, rd, wn, un, ch, rf, ct, nI (k + 1), bs', bc', a1, a2, a3, a4, a5, a6, a7, a8, a9, a10, a11, a12, a13, a14, a15, a16, a17, a18)) :
    wpX_finish post (pc, ins, wc, rd, wn, un, ch, rf, ct, fd, bs, bc, a1, a2, a3, a4, a5, a6, a7, a8, a9, a10, a11, a12, a13, a14, a15, a16, a17, a18) := by
  unfold wpX_finish
  refine nm_r (by rw [hfd, nI_1]) (up_cost (fun v hv h1 h2 => ?_))
  have hlo : ch = ins → v < 16 := fun e => h1 ⟨fun i g => by rw [← e]; exact g, fun i g => up_ff (fun q => up_tf g (hd i (by rw [e]; exact q)))⟩
  have hhi : ch ≠ ins → 16 ≤ v := by
    intro ne
    refine Classical.byContradiction (fun hno => ne (up_suba (fun i g => ?_) (fun i g => ?_)))
    · refine up_tt (fun q => hno (h2 i ?_ (Or.inl ⟨g, q⟩)))
      have := hc i g
      omega
    · have hi := hin i g
      rcases hf i hi with q | q
      · exact q
      · exact absurd (h2 i (by omega) (Or.inr ⟨q, g⟩)) hno
  have upd' : (bs = ins → ch = ins) → post (pc, ins, wc, rd, wn, un, ch, rf, ct, nI (k + 1), ch, nI v, a1, a2, a3, a4, a5, a6, a7, a8, a9, a10, a11, a12, a13, a14, a15, a16, a17, a18) := fun hx =>
    H ch (nI v) (Or.inr ⟨by omega, hR, v, hv, rfl, hlo, hhi⟩) (fun S hS => ⟨up_m3 hn hc, fun e => by
      have e1 := hS.2 e
      rw [e] at e1
      rw [hx e1, e]⟩) ⟨up_m3 hn hc, fun _ => rfl⟩
  rcases hb with ⟨_, hbs, hbc⟩ | ⟨hk0, hRb, vb, hvb, hbc, hb1, hb2⟩
  · have hx : bs = ins → ch = ins := fun e => absurd (e.symm.trans hbs) (up_m3 hn hin)
    exact pk_lt v 4096 (fun _ => upd' hx) (fun z => absurd z (by omega)) (hy := hbc)
  · have keep : vb ≤ v → post (pc, ins, wc, rd, wn, un, ch, rf, ct, nI (k + 1), bs, bc, a1, a2, a3, a4, a5, a6, a7, a8, a9, a10, a11, a12, a13, a14, a15, a16, a17, a18) := fun hle =>
      H bs bc (Or.inr ⟨by omega, hRb, vb, hvb, hbc, hb1, hb2⟩) (fun S hS => hS) ⟨up_m3 hn (hRn bs hRb), fun e => by
        refine Classical.byContradiction (fun ne => ?_)
        have q1 := hlo e
        have q2 := hb2 (fun z => ne (z.trans e.symm))
        omega⟩
    have hx : v ≤ vb → bs = ins → ch = ins := fun hle e => by
      refine Classical.byContradiction (fun ne => ?_)
      have q1 := hb1 e
      have q2 := hhi ne
      omega
    exact pk_lt v vb (fun z => upd' (hx (by omega))) (fun z => pk_eq v vb (fun z2 => br_c (fun _ => keep z) (fun _ => upd' (hx (by omega)))) (fun _ => keep z) (hy := hbc)) (hy := hbc)
end
section
/-! branch and the loop of search -/
def up_w (o : Nat) : Nat := 3 * (2 ^ o - 1)
theorem up_ws {o : Nat} (h : 0 < o) : up_w o = 3 + 2 * up_w (o - 1) := by
  unfold up_w
  obtain ⟨m, rfl⟩ : ∃ m, o = m + 1 := ⟨o - 1, by omega⟩
  have := Nat.pos_of_ne_zero (show 2 ^ m ≠ 0 from Nat.ne_of_gt (Nat.pow_pos (by omega)))
  rw [Nat.pow_succ, Nat.add_sub_cancel]
  omega
theorem up_wm {o o' : Nat} (h : o ≤ o') : up_w o ≤ up_w o' := by
  unfold up_w
  have := Nat.pow_le_pow_right (show 0 < 2 by omega) h
  omega
theorem up_w10 {o : Nat} (h : o ≤ 10) : up_w o ≤ 3069 := up_wm h
def up_sm (f : Nat → Nat) : Nat → Nat
  | 0 => 0
  | d + 1 => up_sm f d + f d
theorem up_smc {f g : Nat → Nat} : ∀ d, (∀ j, j < d → f j = g j) → up_sm f d = up_sm g d := by
  intro d
  induction d with
  | zero => intro _; rfl
  | succ d ih => intro h; unfold up_sm; rw [ih (fun j hj => h j (by omega)), h d (by omega)]
def up_fw (n : Nat) (c r t : Int32) : Nat := if t = 0 then up_w (n - up_pp (c ||| r) n) else if t = 1 then 2 + up_w (n - up_pp (c ||| r) n - 1) else 1
theorem up_fw0 (n : Nat) (c r : Int32) : up_fw n c r (nI 0) = up_w (n - up_pp (c ||| r) n) := if_pos rfl
theorem up_fw1 (n : Nat) (c r : Int32) : up_fw n c r (nI 1) = 2 + up_w (n - up_pp (c ||| r) n - 1) := by
  unfold up_fw
  rw [if_neg (by decide), if_pos (show nI 1 = 1 from rfl)]
theorem up_fw2 (n : Nat) (c r : Int32) : up_fw n c r (nI 2) = 1 := by
  unfold up_fw
  rw [if_neg (by decide), if_neg (by decide)]
def up_sum (n : Nat) (a15 a16 a18 : Nat → Int32) (D : Nat) : Nat := up_sm (fun j => up_fw n (a15 j) (a16 j) (a18 j)) D
/-- a choice point in order -/
def up_fr (n : Nat) (c r p t : Int32) (j : Nat) : Prop :=
  up_in n c ∧ up_in n r ∧ up_dj c r ∧ j ≤ up_pp (c ||| r) n ∧ ∃ q tt, q < n ∧ p = nI q ∧ up_b c q = false ∧ up_b r q = false ∧ tt ≤ 2 ∧ t = nI tt
/-- a set that a choice point still leads to -/
def up_pd (ins c r p t S : Int32) : Prop := up_con c r S ∧ (t = 0 ∨ (t = 1 ∧ ¬ up_b S p.toNatClampNeg = up_b ins p.toNatClampNeg))
/-- the invariant of the search: st steps done, D choice points -/
def up_J (R : Int32 → Prop) (n : Nat) (ins : Int32) (st D : Nat) (fd bs bc : Int32) (a15 a16 a17 a18 : Nat → Int32) : Prop :=
  (∀ j, j < D → up_fr n (a15 j) (a16 j) (a17 j) (a18 j) j) ∧ st + up_sum n a15 a16 a18 D ≤ 3069 ∧ (∃ k, k ≤ st + 1 ∧ fd = nI k ∧ up_best R ins k bs bc) ∧
  (∀ S, R S → (∃ j, j < D ∧ up_pd ins (a15 j) (a16 j) (a17 j) (a18 j) S) ∨ up_done ins bs S)
def up_dp : Nat → Int32
  | 0 => -1
  | d + 1 => nI d
theorem up_dp1 (D : Nat) : up_dp D + 1 = nI D := by
  cases D with
  | zero => decide
  | succ d => exact nI_1 d
theorem up_dpm (d : Nat) : nI d + (-1) = up_dp d := by
  cases d with
  | zero => decide
  | succ d => exact pk_m1 d
theorem up_ppo {x : Int32} {q : Nat} (hx : up_b x q = false) : ∀ n, q < n → up_pp x n < n := by
  intro n
  induction n with
  | zero => intro h; omega
  | succ n ih =>
    intro h
    unfold up_pp
    by_cases e : q = n
    · subst e
      have := up_pp_le x q
      rw [if_neg (fun z => up_tf z hx)]; omega
    · have := ih (by omega)
      split <;> omega
theorem up_i8 : ∀ q, q < 100 → (nI q).toInt8.toInt32 = nI q := by decide +kernel
theorem up_b33 {post : Int32 → St1 → Prop} {x1 x2 : Int32} {pc ins wc rd wn un ch rf ct fd bs bc : Int32} {a1 a2 a3 a4 a5 a6 a7 a8 a9 a10 a11 a12 a13 a14 a15 a16 a17 a18 : Nat → Int32} {n : Nat} (hn : n ≤ 10) (hx : up_in n x2) (hne : ¬ x2 = 0)
    (H : ∀ q, q < n → up_b x2 q = true → wX_branch_53 post x1 (nI q) pc ins wc rd wn un ch rf ct fd bs bc a1 a2 a3 a4 a5 a6 a7 a8 a9 a10 a11 a12 a13 a14 a15 a16 a17 a18) : ∃ fu : Nat, wX_branch_33 post x1 x2 pc ins wc rd wn un ch rf ct fd bs bc a1 a2 a3 a4 a5 a6 a7 a8 a9 a10 a11 a12 a13 a14 a15 a16 a17 a18 fu 0 := by
  refine pk_loop (σ := Unit) (fun f i _ => wX_branch_33 post x1 x2 pc ins wc rd wn un ch rf ct fd bs bc a1 a2 a3 a4 a5 a6 a7 a8 a9 a10 a11 a12 a13 a14 a15 a16 a17 a18 f (nI i)) (fun i _ => ∀ j, j < i → up_b x2 j = false) 9 0 () (by omega) (fun j hj => absurd hj (by omega)) ?_ ?_
  · intro f _ hI
    obtain ⟨j, hj⟩ := up_nz hne
    have h1 := hx j hj
    have h2 : ¬ j < 9 := fun z => up_tf hj (hI j z)
    have e : j = 9 := by omega
    subst e
    exact pk_le 9 9 (fun _ => H 9 h1 hj) (fun z => absurd z (by omega))
  · intro f i _ hi hI hw
    refine pk_le 9 i (fun z => absurd z (by omega)) (fun _ => br_c (fun z => nm_r (nI_1 i) (hw () (fun j hj => ?_))) (fun z => ?_))
    · have bf := (up_tst x2 i (by omega)).mp z
      rcases Nat.lt_or_ge j i with g | g
      · exact hI j g
      · have e : j = i := by omega
        subst e
        exact bf
    · have bt := up_tt (fun q => z ((up_tst x2 i (by omega)).mpr q))
      exact H i (hx i bt) bt

theorem up_branch {post : Int32 → St1 → Prop} {pc ins wc rd wn un ch rf ct fd bs bc : Int32} {a1 a2 a3 a4 a5 a6 a7 a8 a9 a10 a11 a12 a13 a14 a15 a16 a17 a18 : Nat → Int32} {R : Int32 → Prop} {n st D k : Nat} (hpc : pc = nI n) (hn : n ≤ 10) (hin : up_in n ins) (hRn : ∀ S, R S → up_in n S)
    (hc : up_in n ch) (hr : up_in n rf) (hd : up_dj ch rf) (hleaf : (∀ i, i < n → up_b ch i = true ∨ up_b rf i = true) → R ch)
    (hD : D ≤ up_pp (ch ||| rf) n) (hfr : ∀ j, j < D → up_fr n (a15 j) (a16 j) (a17 j) (a18 j) j)
    (hsum : st + up_sum n a15 a16 a18 D + up_w (n - up_pp (ch ||| rf) n) ≤ 3069) (hk : k ≤ st) (hfd : fd = nI k) (hb : up_best R ins k bs bc)
    (hcov : ∀ S, R S → (∃ j, j < D ∧ up_pd ins (a15 j) (a16 j) (a17 j) (a18 j) S) ∨ up_done ins bs S ∨ up_con ch rf S)
    (H : ∀ D' fd' bs' bc' b15 b16 b17 b18, up_J R n ins st D' fd' bs' bc' b15 b16 b17 b18 → post (up_dp D') (pc, ins, wc, rd, wn, un, ch, rf, ct, fd', bs', bc', a1, a2, a3, a4, a5, a6, a7, a8, a9, a10, a11, a12, a13, a14, b15, b16, b17, b18)) :
    wpX_branch post (pc, ins, wc, rd, wn, un, ch, rf, ct, fd, bs, bc, a1, a2, a3, a4, a5, a6, a7, a8, a9, a10, a11, a12, a13, a14, a15, a16, a17, a18) (up_dp D) := by
  unfold wpX_branch
  have ho : ∀ i, up_b ((((1 : Int32) <<< (pc &&& 31)) - 1) &&& ((ch ||| rf) ^^^ (-1))) i = true ↔ i < n ∧ up_b ch i = false ∧ up_b rf i = false := by
    intro i
    rw [hpc, up_difb, up_full hn, up_orf]
  refine nm_e (br_c (fun z => ?_) (fun z => ?_))
  · have hfull : ∀ i, i < n → up_b ch i = true ∨ up_b rf i = true := by
      intro i hi
      by_cases g : up_b ch i = true
      · exact Or.inl g
      · refine Or.inr (up_tt (fun g2 => ?_))
        exact up_tf ((ho i).mpr ⟨hi, up_ff g, g2⟩) (up_z.mp z i)
    refine up_finish hn hfd hin hc hd hfull hRn (hleaf hfull) hb (fun bs' bc' hb' hm hdn => ?_)
    refine H D (nI (k + 1)) bs' bc' a15 a16 a17 a18 ⟨hfr, by omega, ⟨k + 1, by omega, rfl, hb'⟩, fun S hS => ?_⟩
    rcases hcov S hS with g | g | g
    · exact Or.inl g
    · exact Or.inr (hm S g)
    · have e : S = ch := by
        refine up_suba (fun i hi => ?_) g.1
        rcases hfull i (hRn S hS i hi) with q | q
        · exact q
        · exact absurd (g.2 i q) (fun q2 => up_tf hi q2)
      rw [e]
      exact Or.inr hdn
  · have hz : up_in n ((((1 : Int32) <<< (pc &&& 31)) - 1) &&& ((ch ||| rf) ^^^ (-1))) := fun i hi => ((ho i).mp hi).1
    refine up_b33 hn hz z (fun q hq hqb => ?_)
    obtain ⟨_, q1, q2⟩ := (ho q).mp hqb
    have hlt := up_ppo (up_orf.mpr ⟨q1, q2⟩) n hq
    have e : (nI D).toNatClampNeg = D := nI_clamp (by omega)
    unfold wX_branch_53
    refine nm_r (up_dp1 D) ⟨pk_in D 11 (by omega), nm_r (show upd a17 (nI D).toNatClampNeg (nI q).toInt8.toInt32 = upd a17 D (nI q) by rw [e, up_i8 q (by omega)]) ⟨pk_in D 11 (by omega), nm_r (show upd a18 (nI D).toNatClampNeg 0 = upd a18 D 0 by rw [e]) ⟨pk_in D 11 (by omega), nm_r (show upd a15 (nI D).toNatClampNeg ch = upd a15 D ch by rw [e]) ⟨pk_in D 11 (by omega), nm_r (show upd a16 (nI D).toNatClampNeg rf = upd a16 D rf by rw [e]) ?_⟩⟩⟩⟩
    refine H (D + 1) fd bs bc (upd a15 D ch) (upd a16 D rf) (upd a17 D (nI q)) (upd a18 D 0) ⟨fun j hj => ?_, ?_, ⟨k, by omega, hfd, hb⟩, fun S hS => ?_⟩
    · rcases Nat.lt_or_ge j D with g | g
      · rw [pk_un (by omega), pk_un (by omega), pk_un (by omega), pk_un (by omega)]
        exact hfr j g
      · have ej : j = D := by omega
        subst ej
        rw [pk_us, pk_us, pk_us, pk_us]
        exact ⟨hc, hr, hd, hD, q, 0, hq, rfl, q1, q2, by omega, rfl⟩
    · have es : up_sum n (upd a15 D ch) (upd a16 D rf) (upd a18 D 0) (D + 1) = up_sum n a15 a16 a18 D + up_w (n - up_pp (ch ||| rf) n) := by
        show up_sm _ D + up_fw n (upd a15 D ch D) (upd a16 D rf D) (upd a18 D 0 D) = _
        rw [pk_us, pk_us, pk_us]
        have := up_fw0 n ch rf
        rw [nI_0] at this
        rw [this]
        congr 1
        refine up_smc D (fun j hj => ?_)
        show up_fw n (upd a15 D ch j) (upd a16 D rf j) (upd a18 D 0 j) = up_fw n (a15 j) (a16 j) (a18 j)
        rw [pk_un (by omega), pk_un (by omega), pk_un (by omega)]
      rw [es]
      omega
    · rcases hcov S hS with ⟨j, hj, g⟩ | g | g
      · refine Or.inl ⟨j, by omega, ?_⟩
        rw [pk_un (by omega), pk_un (by omega), pk_un (by omega), pk_un (by omega)]
        exact g
      · exact Or.inr g
      · refine Or.inl ⟨D, by omega, ?_⟩
        rw [pk_us, pk_us, pk_us, pk_us]
        exact ⟨g, Or.inl rfl⟩

theorem up_rtn {n : Nat} {nc tg ex sh : Nat → Int32} {wn un : Int32} : ∀ S, up_rt n nc tg ex sh wn un S → up_in n S := fun _ h => h.1

theorem up_s187 {post : St1 → Prop} {J54 : Int32 → Int32 → Int32 → Int32 → Int32 → Int32 → Int32 → Int32 → Int32 → Int32 → Int32 → Int32 → Int32 → Int32 → (Nat → Int32) → (Nat → Int32) → (Nat → Int32) → (Nat → Int32) → (Nat → Int32) → (Nat → Int32) → (Nat → Int32) → (Nat → Int32) → (Nat → Int32) → (Nat → Int32) → (Nat → Int32) → (Nat → Int32) → (Nat → Int32) → (Nat → Int32) → (Nat → Int32) → (Nat → Int32) → (Nat → Int32) → (Nat → Int32) → Prop} {pc ins wc rd wn un ch rf ct fd bs bc : Int32} {a1 a2 a3 a4 a5 a6 a7 a8 a9 a10 a11 a12 a13 a14 a15 a16 a17 a18 : Nat → Int32} {n st D k : Nat} (hpc : pc = nI n) (tb : up_tb n a4 a11 a12 a13) (hin : up_in n ins)
    (hc : up_in n ch) (hr : up_in n rf)
    (hD : D ≤ up_pp (ch ||| rf) n) (hfr : ∀ j, j < D → up_fr n (a15 j) (a16 j) (a17 j) (a18 j) j)
    (hsum : st + 1 + up_sum n a15 a16 a18 D + up_w (n - up_pp (ch ||| rf) n) ≤ 3069) (hk : k ≤ st + 1) (hfd : fd = nI k) (hb : up_best (up_rt n a4 a11 a12 a13 wn un) ins k bs bc)
    (hcov : ∀ S, (up_rt n a4 a11 a12 a13 wn un) S → (∃ j, j < D ∧ up_pd ins (a15 j) (a16 j) (a17 j) (a18 j) S) ∨ up_done ins bs S ∨ up_con ch rf S)
    (HJ : ∀ c r D' fd' bs' bc' b15 b16 b17 b18, up_J (up_rt n a4 a11 a12 a13 wn un) n ins (st + 1) D' fd' bs' bc' b15 b16 b17 b18 → J54 (up_dp D') (nI (st + 1)) pc ins wc rd wn un c r ct fd' bs' bc' a1 a2 a3 a4 a5 a6 a7 a8 a9 a10 a11 a12 a13 a14 b15 b16 b17 b18) :
    wX_search_187 post J54 (up_dp D) (nI st) pc ins wc rd wn un ch rf ct fd bs bc a1 a2 a3 a4 a5 a6 a7 a8 a9 a10 a11 a12 a13 a14 a15 a16 a17 a18 := by
  have hn := tb.1
  unfold wX_search_187
  refine up_prop hpc tb hc hr (fun c r hno => br_t rfl (nm_r (nI_1 st) (HJ c r D fd bs bc a15 a16 a17 a18 ⟨hfr, by omega, ⟨k, by omega, hfd, hb⟩, fun S hS => ?_⟩))) (fun c r hs hd hck => br_f (by decide) ?_)
  · rcases hcov S hS with g | g | g
    · exact Or.inl g
    · exact Or.inr g
    · exact absurd g (hno S hS)
  · have hpp : up_pp (ch ||| rf) n ≤ up_pp (c ||| r) n := up_pp_mono (fun i hi => up_ort.mpr ((up_ort.mp hi).elim (fun g => Or.inl (hs.2.2.1 i g)) (fun g => Or.inr (hs.2.2.2.1 i g)))) n
    have hww : up_w (n - up_pp (c ||| r) n) ≤ up_w (n - up_pp (ch ||| rf) n) := up_wm (by omega)
    have go : wX_search_212 post J54 (up_dp D) (nI st) pc ins wc rd wn un c r ct fd bs bc a1 a2 a3 a4 a5 a6 a7 a8 a9 a10 a11 a12 a13 a14 a15 a16 a17 a18 := by
      unfold wX_search_212
      refine up_branch (R := (up_rt n a4 a11 a12 a13 wn un)) (n := n) (st := st + 1) (k := k) hpc hn hin up_rtn hs.1 hs.2.1 hd (up_leaf tb hs.1 hd hck) (by omega) hfr (by omega) hk hfd hb (fun S hS => ?_) (fun D' fd' bs' bc' b15 b16 b17 b18 hJ => nm_r (nI_1 st) (HJ c r D' fd' bs' bc' b15 b16 b17 b18 hJ))
      rcases hcov S hS with g | g | g
      · exact Or.inl g
      · exact Or.inr (Or.inl g)
      · exact Or.inr (Or.inr (hs.2.2.2.2 S hS g))
    refine br_c (fun _ => up_cost (fun v hv h1 h2 => ?_)) (fun _ => go)
    rcases hb with ⟨_, _, hbc⟩ | ⟨hk0, hRb, vb, hvb, hbc, hb1, hb2⟩
    · exact pk_lt 4096 v (fun z => absurd z (by omega)) (fun _ => go) (hx := hbc)
    · refine pk_lt vb v (fun z => nm_r (nI_1 st) (HJ c r D fd bs bc a15 a16 a17 a18 ⟨hfr, by omega, ⟨k, by omega, hfd, Or.inr ⟨hk0, hRb, vb, hvb, hbc, hb1, hb2⟩⟩, fun S hS => ?_⟩)) (fun _ => go) (hx := hbc)
      rcases hcov S hS with g | g | g
      · exact Or.inl g
      · exact Or.inr g
      · refine Or.inr ⟨up_m3 hn (up_rtn _ hRb), fun e => ?_⟩
        refine Classical.byContradiction (fun ne => ?_)
        have q1 := h1 (by rw [← e]; exact hs.2.2.2.2 S hS g)
        have q2 := hb2 (fun z2 => ne (z2.trans e.symm))
        omega
end
section
/-! the search loop as a whole -/
/-- what a search answers -/
def up_F (R : Int32 → Prop) (ins fd bs bc : Int32) : Prop := (fd = 0 ∧ bs = -3 ∧ ∀ S, ¬ R S) ∨ (¬ fd = 0 ∧ R bs ∧ (R ins → bs = ins ∧ ∃ v, v < 16 ∧ bc = nI v))
theorem up_Jend {R : Int32 → Prop} {n st : Nat} {ins fd bs bc : Int32} {a15 a16 a17 a18 : Nat → Int32} (hst : st ≤ 3069) (h : up_J R n ins st 0 fd bs bc a15 a16 a17 a18) : up_F R ins fd bs bc := by
  obtain ⟨_, hs, ⟨k, hk, hfd, hb⟩, hcov⟩ := h
  have dn : ∀ S, R S → up_done ins bs S := fun S hS => by
    rcases hcov S hS with ⟨j, hj, _⟩ | g
    · omega
    · exact g
  rcases hb with ⟨k0, hbs, _⟩ | ⟨k0, hRb, v, _, hbc, h1, _⟩
  · exact Or.inl ⟨by rw [hfd, k0]; rfl, hbs, fun S hS => (dn S hS).1 hbs⟩
  · refine Or.inr ⟨by rw [hfd]; exact nI_ne0 k0 (by omega), hRb, fun hi => ?_⟩
    have e := (dn ins hi).2 rfl
    exact ⟨e, v, h1 e, hbc⟩

theorem up_s54 {post : St1 → Prop} {pc ins wc rd wn un ct : Int32} {a1 a2 a3 a4 a5 a6 a7 a8 a9 a10 a11 a12 a13 a14 : Nat → Int32} {n : Nat} (hpc : pc = nI n) (tb : up_tb n a4 a11 a12 a13) (hin : up_in n ins)
    (H : ∀ ch rf fd bs bc a15 a16 a17 a18, up_F (up_rt n a4 a11 a12 a13 wn un) ins fd bs bc → post (pc, ins, wc, rd, wn, un, ch, rf, ct, fd, bs, bc, a1, a2, a3, a4, a5, a6, a7, a8, a9, a10, a11, a12, a13, a14, a15, a16, a17, a18)) :
    ∀ N st D ch rf fd bs bc a15 a16 a17 a18, 3070 ≤ N + st → up_J (up_rt n a4 a11 a12 a13 wn un) n ins st D fd bs bc a15 a16 a17 a18 → wX_search_54 post N (up_dp D) (nI st) pc ins wc rd wn un ch rf ct fd bs bc a1 a2 a3 a4 a5 a6 a7 a8 a9 a10 a11 a12 a13 a14 a15 a16 a17 a18 := by
  have hn := tb.1
  intro N
  induction N with
  | zero =>
    intro st D ch rf fd bs bc a15 a16 a17 a18 h hJ
    have := hJ.2.1
    omega
  | succ N ih =>
    intro st D ch rf fd bs bc a15 a16 a17 a18 h hJ
    have hst : st ≤ 3069 := by
      have := hJ.2.1
      omega
    refine pk_le 4096 st (fun z => absurd z (by omega)) (fun _ => ?_)
    cases D with
    | zero => exact br_t (show (-1 : Int32) < 0 by decide) (H ch rf fd bs bc a15 a16 a17 a18 (up_Jend hst hJ))
    | succ d =>
      obtain ⟨hfr, hsum, ⟨k, hk, hfd, hb⟩, hcov⟩ := hJ
      obtain ⟨f1, f2, f3, f4, q, tt, hq, ep, q1, q2, htt, et⟩ := hfr d (by omega)
      have hlt := up_ppo (up_orf.mpr ⟨q1, q2⟩) n hq
      have e : (nI d).toNatClampNeg = d := nI_clamp (by omega)
      have esum : up_sum n a15 a16 a18 (d + 1) = up_sum n a15 a16 a18 d + up_fw n (a15 d) (a16 d) (nI tt) := by
        show up_sm _ d + up_fw n (a15 d) (a16 d) (a18 d) = _
        rw [et]; rfl
      rw [esum] at hsum
      refine br_f (nI_pos (show d < 2 ^ 31 by omega)) ⟨pk_in d 11 (by omega), nm_r (show a18 (nI d).toNatClampNeg = nI tt by rw [e, et]) ?_⟩
      refine pk_eq tt 2 (fun z => nm_r (up_dpm d) (nm_r (nI_1 st) (ih (st + 1) d ch rf fd bs bc a15 a16 a17 a18 (by omega) ⟨fun j hj => hfr j (by omega), ?_, ⟨k, by omega, hfd, hb⟩, fun S hS => ?_⟩))) (fun z => ?_)
      · subst z
        rw [up_fw2] at hsum
        omega
      · rcases hcov S hS with ⟨j, hj, g⟩ | g
        · rcases Nat.lt_or_ge j d with gj | gj
          · exact Or.inl ⟨j, gj, g⟩
          · have ej : j = d := by omega
            subst ej
            rw [et, z] at g
            rcases g.2 with g | g
            · exact absurd g (by decide)
            · exact absurd g.1 (by decide)
        · exact Or.inr g
      · have htt2 : tt = 0 ∨ tt = 1 := by omega
        have h18 : upd a18 (nI d).toNatClampNeg ((nI tt + 1).toInt8.toInt32) = upd a18 d (nI (tt + 1)) := by rw [e, nI_1, up_i8 (tt + 1) (by omega)]
        have key : ∀ (x : Bool) (c1 r1 : Int32), (tt = 0 → x = up_b ins q) → (tt = 1 → x = !(up_b ins q)) → up_in n c1 → up_in n r1 → up_sub (a15 d ||| a16 d) (c1 ||| r1) → up_b (c1 ||| r1) q = true → (∀ S, up_con (a15 d) (a16 d) S → up_b S q = x → up_con c1 r1 S) →
            wX_search_187 post (wX_search_54 post N) (nI d) (nI st) pc ins wc rd wn un c1 r1 ct fd bs bc a1 a2 a3 a4 a5 a6 a7 a8 a9 a10 a11 a12 a13 a14 a15 a16 a17 (upd a18 d (nI (tt + 1))) := by
          intro x c1 r1 hx0 hx1 hc1 hr1 hsub hqb hS1
          have hpl := up_pp_lt hsub (up_orf.mpr ⟨q1, q2⟩) hqb n hq
          have hww : up_w (n - up_pp (c1 ||| r1) n) ≤ up_w (n - up_pp (a15 d ||| a16 d) n - 1) := up_wm (by omega)
          have esum' : up_sum n a15 a16 (upd a18 d (nI (tt + 1))) (d + 1) = up_sum n a15 a16 a18 d + up_fw n (a15 d) (a16 d) (nI (tt + 1)) := by
            show up_sm _ d + up_fw n (a15 d) (a16 d) (upd a18 d (nI (tt + 1)) d) = _
            rw [pk_us]
            congr 1
            refine up_smc d (fun j hj => ?_)
            show up_fw n (a15 j) (a16 j) (upd a18 d (nI (tt + 1)) j) = up_fw n (a15 j) (a16 j) (a18 j)
            rw [pk_un (by omega)]
          refine up_s187 (D := d + 1) (k := k) hpc tb hin hc1 hr1 (by omega) (fun j hj => ?_) ?_ (by omega) hfd hb (fun S hS => ?_) (fun c r D' fd' bs' bc' b15 b16 b17 b18 hJ' => ih (st + 1) D' c r fd' bs' bc' b15 b16 b17 b18 (by omega) hJ')
          · rcases Nat.lt_or_ge j d with g | g
            · rw [pk_un (by omega)]
              exact hfr j (by omega)
            · have ej : j = d := by omega
              subst ej
              rw [pk_us]
              exact ⟨f1, f2, f3, f4, q, tt + 1, hq, ep, q1, q2, by omega, rfl⟩
          · rw [esum']
            rcases htt2 with g | g
            · subst g
              rw [up_fw0, up_ws (by omega)] at hsum
              have e1 : up_fw n (a15 d) (a16 d) (nI (0 + 1)) = 2 + up_w (n - up_pp (a15 d ||| a16 d) n - 1) := up_fw1 n _ _
              rw [e1]
              omega
            · subst g
              rw [up_fw1] at hsum
              have e1 : up_fw n (a15 d) (a16 d) (nI (1 + 1)) = 1 := up_fw2 n _ _
              rw [e1]
              omega
          · rcases hcov S hS with ⟨j, hj, g⟩ | g
            · rcases Nat.lt_or_ge j d with gj | gj
              · refine Or.inl ⟨j, by omega, ?_⟩
                rw [pk_un (by omega)]
                exact g
              · have ej : j = d := by omega
                subst ej
                by_cases hx : up_b S q = x
                · exact Or.inr (Or.inr (hS1 S g.1 hx))
                · have eq : (nI q).toNatClampNeg = q := nI_clamp (by omega)
                  refine Or.inl ⟨j, by omega, g.1, Or.inr ?_⟩
                  rw [pk_us]
                  have gg : a18 j = 0 ∨ (a18 j = 1 ∧ ¬ up_b S (a17 j).toNatClampNeg = up_b ins (a17 j).toNatClampNeg) := g.2
                  rw [ep, eq, et] at gg
                  rw [ep, eq]
                  rcases htt2 with g2 | g2
                  · refine ⟨by rw [g2]; rfl, ?_⟩
                    rw [← hx0 g2]
                    exact hx
                  · exfalso
                    rw [g2] at gg
                    rcases gg with g3 | g3
                    · exact absurd g3 (by decide)
                    · have hxe := hx1 g2
                      have g4 := g3.2
                      revert hx g4
                      rw [hxe]
                      cases up_b S q <;> cases up_b ins q <;> simp
            · exact Or.inr (Or.inl g)
        have hq32 : q < 32 := by omega
        have inq := up_inone hq hn
        have chosen : (tt = 0 → up_b ins q = true) → (tt = 1 → up_b ins q = false) → wX_search_187 post (wX_search_54 post N) (nI d) (nI st) pc ins wc rd wn un (a15 d ||| ((1 : Int32) <<< (nI q &&& 31))) (a16 d) ct fd bs bc a1 a2 a3 a4 a5 a6 a7 a8 a9 a10 a11 a12 a13 a14 a15 a16 a17 (upd a18 d (nI (tt + 1))) := fun h1 h2 =>
          key true _ _ (fun g => (h1 g).symm) (fun g => by rw [h2 g]; rfl) (up_inor f1 inq) f2 (fun i hi => by
            rcases up_ort.mp hi with g | g
            · exact up_ort.mpr (Or.inl (up_ort.mpr (Or.inl g)))
            · exact up_ort.mpr (Or.inr g)) (up_ort.mpr (Or.inl (up_ort.mpr (Or.inr ((up_onet hq32).mpr rfl))))) (fun S hS hSq => ⟨fun i hi => by
              rcases up_ort.mp hi with g | g
              · exact hS.1 i g
              · rw [(up_onet hq32).mp g]; exact hSq, hS.2⟩)
        have refused : (tt = 0 → up_b ins q = false) → (tt = 1 → up_b ins q = true) → wX_search_187 post (wX_search_54 post N) (nI d) (nI st) pc ins wc rd wn un (a15 d) (a16 d ||| ((1 : Int32) <<< (nI q &&& 31))) ct fd bs bc a1 a2 a3 a4 a5 a6 a7 a8 a9 a10 a11 a12 a13 a14 a15 a16 a17 (upd a18 d (nI (tt + 1))) := fun h1 h2 =>
          key false _ _ (fun g => (h1 g).symm) (fun g => by rw [h2 g]; rfl) f1 (up_inor f2 inq) (fun i hi => by
            rcases up_ort.mp hi with g | g
            · exact up_ort.mpr (Or.inl g)
            · exact up_ort.mpr (Or.inr (up_ort.mpr (Or.inl g)))) (up_ort.mpr (Or.inr (up_ort.mpr (Or.inr ((up_onet hq32).mpr rfl))))) (fun S hS hSq => ⟨hS.1, fun i hi => by
              rcases up_ort.mp hi with g | g
              · exact hS.2 i g
              · rw [(up_onet hq32).mp g]; exact hSq⟩)
        refine ⟨pk_in d 11 (by omega), nm_r h18 ⟨pk_in d 11 (by omega), nm_r (show a15 (nI d).toNatClampNeg = a15 d by rw [e]) ⟨pk_in d 11 (by omega), nm_r (show a16 (nI d).toNatClampNeg = a16 d by rw [e]) ⟨pk_in d 11 (by omega), nm_r (show a17 (nI d).toNatClampNeg = nI q by rw [e, ep]) (br_c (fun z1 => ?_) (fun z1 => ?_))⟩⟩⟩⟩
        · have bi := (up_tst ins q hq32).mp z1
          unfold wX_search_141
          refine pk_eq tt 0 (fun z2 => ?_) (fun z2 => ?_)
          · unfold wX_search_155
            exact br_f (by decide) (nm_e (refused (fun _ => bi) (fun g => absurd g (by omega))))
          · unfold wX_search_155
            exact br_t rfl (nm_e (chosen (fun g => absurd g z2) (fun _ => bi)))
        · have bi := up_tt (fun g => z1 ((up_tst ins q hq32).mpr g))
          unfold wX_search_141
          refine pk_eq tt 0 (fun z2 => ?_) (fun z2 => ?_)
          · unfold wX_search_155
            exact br_t rfl (nm_e (chosen (fun _ => bi) (fun g => absurd g (by omega))))
          · unfold wX_search_155
            exact br_f (by decide) (nm_e (refused (fun g => absurd g z2) (fun _ => bi)))
end
section
/-! what the patterns come to: functions of the packages, and the walk of prepare -/
def up_fc (a1 a2 a3 : Nat → Int32) (pat ri : Int32) (p : Nat) : Bool :=
  if pat < 50 then (if a1 p = pat / 10 then (if ri = 0 then (if (pat - pat / 10 * 10) < a2 p then false else true) else (if a2 p < (pat - pat / 10 * 10) then false else true)) else false)
  else (if ((a3 p >>> ((pat - 50) &&& 31)) &&& 1) = 0 then false else true)
def up_fit (a1 a2 a3 : Nat → Int32) (pat ri : Int32) : Nat → Int32
  | 0 => 0
  | p + 1 => if up_fc a1 a2 a3 pat ri p = true then up_fit a1 a2 a3 pat ri p ||| ((1 : Int32) <<< (nI p &&& 31)) else up_fit a1 a2 a3 pat ri p
def up_sh (a1 : Nat → Int32) (m : Nat) : Nat → Int32
  | 0 => 0
  | p + 1 => if a1 p = nI m then up_sh a1 m p ||| ((1 : Int32) <<< (nI p &&& 31)) else up_sh a1 m p
def up_tg (n : Nat) (a1 a2 a3 a5 a6 : Nat → Int32) (j : Nat) : Int32 :=
  if a5 j = 2 then up_fit a1 a2 a3 (a6 (2 * j)) 1 n ||| up_fit a1 a2 a3 (a6 (2 * j + 1)) 1 n else up_fit a1 a2 a3 (a6 (2 * j)) 1 n
def up_e0 (n : Nat) (a1 : Nat → Int32) (p : Nat) : Int32 := up_sh a1 (a1 p).toNatClampNeg n &&& (((1 : Int32) <<< (nI p &&& 31)) ^^^ (-1))
def up_ag (n : Nat) (a1 a2 a3 a8 : Nat → Int32) (p : Nat) : Nat → Int32
  | 0 => 0
  | k + 1 => up_ag n a1 a2 a3 a8 p k ||| up_fit a1 a2 a3 (a8 (2 * p + k)) 0 n
def up_am (n : Nat) (a1 a2 a3 a7 a8 : Nat → Int32) (p : Nat) : Int32 := up_ag n a1 a2 a3 a8 p (a7 p).toNatClampNeg &&& (((1 : Int32) <<< (nI p &&& 31)) ^^^ (-1))
def up_cs (am : Int32) (p : Nat) (e : Nat → Int32) (j : Nat) : Int32 := if up_b am j = true then upd e p (e p ||| am) j ||| ((1 : Int32) <<< (nI p &&& 31)) else upd e p (e p ||| am) j
def up_ec (n : Nat) (a1 a2 a3 a7 a8 : Nat → Int32) : Nat → Nat → Int32
  | 0 => up_e0 n a1
  | p + 1 => up_cs (up_am n a1 a2 a3 a7 a8 p) p (up_ec n a1 a2 a3 a7 a8 p)
def up_wn (a9 a10 : Nat → Int32) : Nat → Int32
  | 0 => 0
  | i + 1 => if a10 i = 0 then up_wn a9 a10 i else up_wn a9 a10 i ||| ((1 : Int32) <<< (a9 i &&& 31))
def up_un (a9 a10 : Nat → Int32) : Nat → Int32
  | 0 => 0
  | i + 1 => if a10 i = 0 then up_un a9 a10 i ||| ((1 : Int32) <<< (a9 i &&& 31)) else up_un a9 a10 i
def up_sp (n w : Nat) (a1 a2 a3 a4 a5 a6 a7 a8 a9 a10 : Nat → Int32) (wn un : Int32) (a11 a12 a13 : Nat → Int32) : Prop :=
  (∀ p, p < n → ∀ k, k < (a4 p).toNatClampNeg → a11 (2 * p + k) = up_tg n a1 a2 a3 a5 a6 (2 * p + k)) ∧ (∀ p, p < n → a12 p = up_ec n a1 a2 a3 a7 a8 n p) ∧ (∀ m, m < 5 → a13 m = up_sh a1 m n) ∧ wn = up_wn a9 a10 w ∧ un = up_un a9 a10 w
/-- a set of packages is right, by what has been said of the packages -/
def up_R (n w : Nat) (a1 a2 a3 a4 a5 a6 a7 a8 a9 a10 : Nat → Int32) (S : Int32) : Prop :=
  up_rt n a4 (up_tg n a1 a2 a3 a5 a6) (up_ec n a1 a2 a3 a7 a8 n) (fun m => up_sh a1 m n) (up_wn a9 a10 w) (up_un a9 a10 w) S
/-- the object's invariant -/
def up_I (n w : Nat) (pc ins wc rd wn un : Int32) (a1 a2 a3 a4 a5 a6 a7 a8 a9 a10 a11 a12 a13 : Nat → Int32) : Prop :=
  pc = nI n ∧ n ≤ 10 ∧ wc = nI w ∧ w ≤ 4 ∧ up_in n ins ∧ (∀ p, p < n → ∃ j, j < 5 ∧ a1 p = nI j) ∧ (∀ p, p < 10 → ∃ j, j < 3 ∧ a4 p = nI j) ∧ (∀ p, p < 10 → ∃ j, j < 3 ∧ a7 p = nI j) ∧ (¬ rd = 0 → (up_sp n w a1 a2 a3 a4 a5 a6 a7 a8 a9 a10 wn un a11 a12 a13))
/-! bounds -/
theorem up_fit_in (a1 a2 a3 : Nat → Int32) (pat ri : Int32) : ∀ m, m ≤ 10 → up_in m (up_fit a1 a2 a3 pat ri m) := by
  intro m
  induction m with
  | zero => intro _; exact up_in0 0
  | succ m ih =>
    intro hm
    have := up_inmono (show m ≤ m + 1 by omega) (ih (by omega))
    unfold up_fit
    split
    · exact up_inor this (up_inone (by omega) hm)
    · exact this
theorem up_sh_in (a1 : Nat → Int32) (k : Nat) : ∀ m, m ≤ 10 → up_in m (up_sh a1 k m) := by
  intro m
  induction m with
  | zero => intro _; exact up_in0 0
  | succ m ih =>
    intro hm
    have := up_inmono (show m ≤ m + 1 by omega) (ih (by omega))
    unfold up_sh
    split
    · exact up_inor this (up_inone (by omega) hm)
    · exact this
theorem up_tg_in {n : Nat} (hn : n ≤ 10) (a1 a2 a3 a5 a6 : Nat → Int32) (j : Nat) : up_in n (up_tg n a1 a2 a3 a5 a6 j) := by
  unfold up_tg
  split
  · exact up_inor (up_fit_in _ _ _ _ _ n hn) (up_fit_in _ _ _ _ _ n hn)
  · exact up_fit_in _ _ _ _ _ n hn
theorem up_ag_in {n : Nat} (hn : n ≤ 10) (a1 a2 a3 a8 : Nat → Int32) (p k : Nat) : up_in n (up_ag n a1 a2 a3 a8 p k) := by
  induction k with
  | zero => exact up_in0 n
  | succ k ih => exact up_inor ih (up_fit_in _ _ _ _ _ n hn)
theorem up_am_in {n : Nat} (hn : n ≤ 10) (a1 a2 a3 a7 a8 : Nat → Int32) (p : Nat) : up_in n (up_am n a1 a2 a3 a7 a8 p) := up_inand (up_ag_in hn _ _ _ _ _ _)
theorem up_cs_in {n p : Nat} (hn : n ≤ 10) (hp : p < n) {am : Int32} (ha : up_in n am) {e : Nat → Int32} (he : ∀ j, j < n → up_in n (e j)) : ∀ j, j < n → up_in n (up_cs am p e j) := by
  intro j hj
  have h0 : up_in n (upd e p (e p ||| am) j) := by
    by_cases g : j = p
    · rw [g, pk_us]; exact up_inor (he p hp) ha
    · rw [pk_un g]; exact he j hj
  unfold up_cs
  split
  · exact up_inor h0 (up_inone hp hn)
  · exact h0
theorem up_ec_in {n : Nat} (hn : n ≤ 10) (a1 a2 a3 a7 a8 : Nat → Int32) : ∀ q, q ≤ n → ∀ j, j < n → up_in n (up_ec n a1 a2 a3 a7 a8 q j) := by
  intro q
  induction q with
  | zero => intro _ j _; exact up_inand (up_sh_in _ _ n hn)
  | succ q ih => intro hq; exact up_cs_in hn (by omega) (up_am_in hn _ _ _ _ _ _) (ih (by omega))
theorem up_sp_tb {n w : Nat} {pc ins wc rd wn un rd' wn' un' : Int32} {a1 a2 a3 a4 a5 a6 a7 a8 a9 a10 a11 a12 a13 b11 b12 b13 : Nat → Int32} (hI : (up_I n w pc ins wc rd wn un a1 a2 a3 a4 a5 a6 a7 a8 a9 a10 a11 a12 a13)) (h : (up_sp n w a1 a2 a3 a4 a5 a6 a7 a8 a9 a10 wn' un' b11 b12 b13)) : up_tb n a4 b11 b12 b13 := by
  obtain ⟨_, hn, _, _, _, _, h4, _, _⟩ := hI
  refine ⟨hn, fun p hp => h4 p (by omega), fun p hp k hk => ?_, fun p hp => ?_, fun m hm => ?_⟩
  · rw [h.1 p hp k hk]; exact up_tg_in hn _ _ _ _ _ _
  · rw [h.2.1 p hp]; exact up_ec_in hn _ _ _ _ _ n (Nat.le_refl n) p hp
  · rw [h.2.2.1 m hm]; exact up_sh_in _ _ n hn
theorem up_rtc {n : Nat} {nc tg ex sh tg' ex' sh' : Nat → Int32} {wn un S : Int32} (h1 : ∀ p, p < n → ∀ k, k < (nc p).toNatClampNeg → tg (2 * p + k) = tg' (2 * p + k)) (h2 : ∀ p, p < n → ex p = ex' p) (h3 : ∀ m, m < 5 → sh m = sh' m) (h : up_rt n nc tg ex sh wn un S) : up_rt n nc tg' ex' sh' wn un S := by
  refine ⟨h.1, fun p hp hSp => ⟨?_, fun k hk => ?_⟩, fun m hm => ⟨fun hw => ?_, fun hu => ?_⟩⟩
  · rw [← h2 p hp]; exact (h.2.1 p hp hSp).1
  · rw [← h1 p hp k hk]; exact (h.2.1 p hp hSp).2 k hk
  · rw [← h3 m hm]; exact (h.2.2 m hm).1 hw
  · rw [← h3 m hm]; exact (h.2.2 m hm).2 hu
theorem up_sp_R {n w : Nat} {wn un : Int32} {a1 a2 a3 a4 a5 a6 a7 a8 a9 a10 a11 a12 a13 : Nat → Int32} (h : (up_sp n w a1 a2 a3 a4 a5 a6 a7 a8 a9 a10 wn un a11 a12 a13)) : (up_rt n a4 a11 a12 a13 wn un) = (up_R n w a1 a2 a3 a4 a5 a6 a7 a8 a9 a10) := by
  obtain ⟨h1, h2, h3, rfl, rfl⟩ := h
  funext S
  refine propext ⟨fun g => up_rtc h1 h2 h3 g, fun g => up_rtc (fun p hp k hk => (h1 p hp k hk).symm) (fun p hp => (h2 p hp).symm) (fun m hm => (h3 m hm).symm) g⟩
theorem up_R0 {n w : Nat} {a1 a2 a3 a4 a5 a6 a7 a8 a9 a10 : Nat → Int32} {S : Int32} (h : (up_R n w a1 a2 a3 a4 a5 a6 a7 a8 a9 a10) S) : (up_R n 0 a1 a2 a3 a4 a5 a6 a7 a8 a9 a10) S :=
  ⟨h.1, h.2.1, fun m hm => ⟨fun z => absurd z (by show ¬ up_b 0 m = true; rw [up_0]; decide), fun z => absurd z (by show ¬ up_b 0 m = true; rw [up_0]; decide)⟩⟩
/-! the walk -/
theorem up_fitting {post : Int32 → Prop} {pc ins wc rd wn un ch rf ct fd bs bc : Int32} {a1 a2 a3 a4 a5 a6 a7 a8 a9 a10 a11 a12 a13 a14 a15 a16 a17 a18 : Nat → Int32} {n : Nat} {x1 x2 : Int32} (hpc : pc = nI n) (hn : n ≤ 10) (H : post (up_fit a1 a2 a3 x1 x2 n)) : wpX_fitting post (pc, ins, wc, rd, wn, un, ch, rf, ct, fd, bs, bc, a1, a2, a3, a4, a5, a6, a7, a8, a9, a10, a11, a12, a13, a14, a15, a16, a17, a18) x1 x2 := by
  unfold wpX_fitting
  refine pk_loop (σ := Unit) (fun f i _ => wX_fitting_5 post x1 x2 pc ins wc rd wn un ch rf ct fd bs bc a1 a2 a3 a4 a5 a6 a7 a8 a9 a10 a11 a12 a13 a14 a15 a16 a17 a18 f (up_fit a1 a2 a3 x1 x2 i) (nI i)) (fun _ _ => True) n 0 () (by omega) trivial (fun f _ _ => pk_le n n (fun _ => H) (fun z => absurd z (by omega)) (hx := hpc)) ?_
  intro f i _ hi _ hw
  have hw' : wX_fitting_5 post x1 x2 pc ins wc rd wn un ch rf ct fd bs bc a1 a2 a3 a4 a5 a6 a7 a8 a9 a10 a11 a12 a13 a14 a15 a16 a17 a18 f (up_fit a1 a2 a3 x1 x2 (i + 1)) (nI (i + 1)) := hw () trivial
  have e : (nI i).toNatClampNeg = i := nI_clamp (by omega)
  have y : up_fc a1 a2 a3 x1 x2 i = true → wX_fitting_114 post (wX_fitting_5 post x1 x2 pc ins wc rd wn un ch rf ct fd bs bc a1 a2 a3 a4 a5 a6 a7 a8 a9 a10 a11 a12 a13 a14 a15 a16 a17 a18 f) x1 x2 (up_fit a1 a2 a3 x1 x2 i) (nI i) 1 pc ins wc rd wn un ch rf ct fd bs bc a1 a2 a3 a4 a5 a6 a7 a8 a9 a10 a11 a12 a13 a14 a15 a16 a17 a18 := by
    intro h
    have ee : up_fit a1 a2 a3 x1 x2 (i + 1) = up_fit a1 a2 a3 x1 x2 i ||| ((1 : Int32) <<< (nI i &&& 31)) := if_pos h
    rw [ee] at hw'
    unfold wX_fitting_114
    exact br_f (by decide) (nm_e (nm_r (nI_1 i) hw'))
  have no : up_fc a1 a2 a3 x1 x2 i = false → wX_fitting_114 post (wX_fitting_5 post x1 x2 pc ins wc rd wn un ch rf ct fd bs bc a1 a2 a3 a4 a5 a6 a7 a8 a9 a10 a11 a12 a13 a14 a15 a16 a17 a18 f) x1 x2 (up_fit a1 a2 a3 x1 x2 i) (nI i) 0 pc ins wc rd wn un ch rf ct fd bs bc a1 a2 a3 a4 a5 a6 a7 a8 a9 a10 a11 a12 a13 a14 a15 a16 a17 a18 := by
    intro h
    have ee : up_fit a1 a2 a3 x1 x2 (i + 1) = up_fit a1 a2 a3 x1 x2 i := if_neg (fun z => up_tf z h)
    rw [ee] at hw'
    unfold wX_fitting_114
    exact br_t rfl (nm_r (nI_1 i) hw')
  have y2 : up_fc a1 a2 a3 x1 x2 i = true → wX_fitting_112 post (wX_fitting_5 post x1 x2 pc ins wc rd wn un ch rf ct fd bs bc a1 a2 a3 a4 a5 a6 a7 a8 a9 a10 a11 a12 a13 a14 a15 a16 a17 a18 f) x1 x2 (up_fit a1 a2 a3 x1 x2 i) (nI i) 1 pc ins wc rd wn un ch rf ct fd bs bc a1 a2 a3 a4 a5 a6 a7 a8 a9 a10 a11 a12 a13 a14 a15 a16 a17 a18 := y
  have no2 : up_fc a1 a2 a3 x1 x2 i = false → wX_fitting_112 post (wX_fitting_5 post x1 x2 pc ins wc rd wn un ch rf ct fd bs bc a1 a2 a3 a4 a5 a6 a7 a8 a9 a10 a11 a12 a13 a14 a15 a16 a17 a18 f) x1 x2 (up_fit a1 a2 a3 x1 x2 i) (nI i) 0 pc ins wc rd wn un ch rf ct fd bs bc a1 a2 a3 a4 a5 a6 a7 a8 a9 a10 a11 a12 a13 a14 a15 a16 a17 a18 := no
  have y3 : up_fc a1 a2 a3 x1 x2 i = true → wX_fitting_42 post (wX_fitting_5 post x1 x2 pc ins wc rd wn un ch rf ct fd bs bc a1 a2 a3 a4 a5 a6 a7 a8 a9 a10 a11 a12 a13 a14 a15 a16 a17 a18 f) x1 x2 (up_fit a1 a2 a3 x1 x2 i) (nI i) 1 pc ins wc rd wn un ch rf ct fd bs bc a1 a2 a3 a4 a5 a6 a7 a8 a9 a10 a11 a12 a13 a14 a15 a16 a17 a18 := y
  have no3 : up_fc a1 a2 a3 x1 x2 i = false → wX_fitting_42 post (wX_fitting_5 post x1 x2 pc ins wc rd wn un ch rf ct fd bs bc a1 a2 a3 a4 a5 a6 a7 a8 a9 a10 a11 a12 a13 a14 a15 a16 a17 a18 f) x1 x2 (up_fit a1 a2 a3 x1 x2 i) (nI i) 0 pc ins wc rd wn un ch rf ct fd bs bc a1 a2 a3 a4 a5 a6 a7 a8 a9 a10 a11 a12 a13 a14 a15 a16 a17 a18 := no
  refine pk_le n i (fun z => absurd z (by omega)) (fun _ => ?_) (hx := hpc)
  rw [e]
  refine br_c (fun z1 => ⟨pk_in i 10 (by omega), by decide, br_c (fun z2 => br_c (fun z3 => ⟨pk_in i 10 (by omega), by decide, br_c (fun z4 => no2 ?_) (fun z4 => y2 ?_)⟩) (fun z3 => ⟨pk_in i 10 (by omega), by decide, br_c (fun z4 => no2 ?_) (fun z4 => y2 ?_)⟩)) (fun z2 => no ?_)⟩) (fun z1 => ⟨pk_in i 10 (by omega), br_c (fun z2 => no3 ?_) (fun z2 => y3 ?_)⟩)
  · unfold up_fc; rw [if_pos z1, if_pos z2, if_pos z3, if_pos z4]
  · unfold up_fc; rw [if_pos z1, if_pos z2, if_pos z3, if_neg z4]
  · unfold up_fc; rw [if_pos z1, if_pos z2, if_neg z3, if_pos z4]
  · unfold up_fc; rw [if_pos z1, if_pos z2, if_neg z3, if_neg z4]
  · unfold up_fc; rw [if_pos z1, if_neg z2]
  · unfold up_fc; rw [if_neg z1, if_pos z2]
  · unfold up_fc; rw [if_neg z1, if_neg z2]

theorem up_n29 {post : St1 → Prop} {pc ins wc rd wn un ch rf ct fd bs bc : Int32} {a1 a2 a3 a4 a5 a6 a7 a8 a9 a10 a11 a12 a13 a14 a15 a16 a17 a18 : Nat → Int32} {n : Nat} (hpc : pc = nI n) (hn : n ≤ 10) (h1 : ∀ p, p < n → ∃ j, j < 5 ∧ a1 p = nI j)
    (hs : ∀ m, m < 5 → a13 m = 0 ∧ a14 m = -1)
    (H : ∀ s t, (∀ m, m < 5 → s m = up_sh a1 m n) → post (pc, ins, wc, rd, wn, un, ch, rf, ct, fd, bs, bc, a1, a2, a3, a4, a5, a6, a7, a8, a9, a10, a11, a12, s, t, a15, a16, a17, a18)) : ∃ fu : Nat, wX_listNames_29 post pc ins wc rd wn un ch rf ct fd bs bc fu 0 a1 a2 a3 a4 a5 a6 a7 a8 a9 a10 a11 a12 a13 a14 a15 a16 a17 a18 := by
  refine pk_loop (σ := (Nat → Int32) × (Nat → Int32)) (fun f i s => wX_listNames_29 post pc ins wc rd wn un ch rf ct fd bs bc f (nI i) a1 a2 a3 a4 a5 a6 a7 a8 a9 a10 a11 a12 s.1 s.2 a15 a16 a17 a18) (fun i s => ∀ m, m < 5 → s.1 m = up_sh a1 m i ∧ (s.2 m < 0 ∨ ∃ q, q < 10 ∧ s.2 m = nI q)) n 0 (a13, a14) (by omega) (fun m hm => ⟨(hs m hm).1, Or.inl (by show a14 m < 0; rw [(hs m hm).2]; decide)⟩) ?_ ?_
  · intro f s hI
    obtain ⟨s, t⟩ := s
    exact pk_le n n (fun _ => H s t (fun m hm => (hI m hm).1)) (fun z => absurd z (by omega)) (hx := hpc)
  · intro f i s hi hI hw
    obtain ⟨s, t⟩ := s
    have hI : ∀ m, m < 5 → s m = up_sh a1 m i ∧ (t m < 0 ∨ ∃ q, q < 10 ∧ t m = nI q) := hI
    obtain ⟨m, hm, em⟩ := h1 i hi
    have e : (nI i).toNatClampNeg = i := nI_clamp (by omega)
    have e2 : (nI m).toNatClampNeg = m := nI_clamp (by omega)
    have hs' : ∀ m', m' < 5 → upd s m (s m ||| ((1 : Int32) <<< (nI i &&& 31))) m' = up_sh a1 m' (i + 1) := by
      intro m' hm'
      by_cases g : m' = m
      · subst g
        rw [pk_us, (hI m' hm').1]
        exact (if_pos em).symm
      · rw [pk_un g, (hI m' hm').1]
        refine (if_neg (fun z => g ?_)).symm
        rw [em, nI_eq (by omega) (by omega)] at z
        exact z.symm
    have w0 : wX_listNames_29 post pc ins wc rd wn un ch rf ct fd bs bc f (nI (i + 1)) a1 a2 a3 a4 a5 a6 a7 a8 a9 a10 a11 a12 (upd s m (s m ||| ((1 : Int32) <<< (nI i &&& 31)))) t a15 a16 a17 a18 := hw (upd s m (s m ||| ((1 : Int32) <<< (nI i &&& 31))), t) (fun m' hm' => ⟨hs' m' hm', (hI m' hm').2⟩)
    have w1 : wX_listNames_85 post (wX_listNames_29 post pc ins wc rd wn un ch rf ct fd bs bc f) (nI i) (nI m) pc ins wc rd wn un ch rf ct fd bs bc a1 a2 a3 a4 a5 a6 a7 a8 a9 a10 a11 a12 (upd s m (s m ||| ((1 : Int32) <<< (nI i &&& 31)))) t a15 a16 a17 a18 := by
      unfold wX_listNames_85
      refine ⟨pk_in m 5 hm, nm_r (show upd t (nI m).toNatClampNeg (nI i).toInt8.toInt32 = upd t m (nI i) by rw [e2, up_i8 i (by omega)]) (nm_r (nI_1 i) (hw (upd s m (s m ||| ((1 : Int32) <<< (nI i &&& 31))), upd t m (nI i)) (fun m' hm' => ⟨hs' m' hm', ?_⟩)))⟩
      show upd t m (nI i) m' < 0 ∨ ∃ q, q < 10 ∧ upd t m (nI i) m' = nI q
      by_cases g : m' = m
      · subst g
        rw [pk_us]
        exact Or.inr ⟨i, by omega, rfl⟩
      · rw [pk_un g]
        exact (hI m' hm').2
    refine pk_le n i (fun z => absurd z (by omega)) (fun _ => ⟨pk_in i 10 (by omega), nm_r (show a1 (nI i).toNatClampNeg = nI m by rw [e, em]) ?_⟩) (hx := hpc)
    rw [e2]
    refine ⟨pk_in m 5 hm, pk_in m 5 hm, nm_e ⟨pk_in m 5 hm, br_c (fun _ => w1) (fun z => ⟨pk_in i 10 (by omega), pk_in m 5 hm, ?_, br_c (fun _ => nm_r (nI_1 i) w0) (fun _ => w1)⟩)⟩⟩
    rcases (hI m hm).2 with g | ⟨q, hq, g⟩
    · exact absurd g z
    · exact pk_in q 10 hq (hx := g)

theorem up_listNames {post : St1 → Prop} {pc ins wc rd wn un ch rf ct fd bs bc : Int32} {a1 a2 a3 a4 a5 a6 a7 a8 a9 a10 a11 a12 a13 a14 a15 a16 a17 a18 : Nat → Int32} {n : Nat} (hpc : pc = nI n) (hn : n ≤ 10) (h1 : ∀ p, p < n → ∃ j, j < 5 ∧ a1 p = nI j)
    (H : ∀ s t, (∀ m, m < 5 → s m = up_sh a1 m n) → post (pc, ins, wc, rd, wn, un, ch, rf, ct, fd, bs, bc, a1, a2, a3, a4, a5, a6, a7, a8, a9, a10, a11, a12, s, t, a15, a16, a17, a18)) : wpX_listNames post (pc, ins, wc, rd, wn, un, ch, rf, ct, fd, bs, bc, a1, a2, a3, a4, a5, a6, a7, a8, a9, a10, a11, a12, a13, a14, a15, a16, a17, a18) := by
  unfold wpX_listNames
  refine pk_loop (σ := (Nat → Int32) × (Nat → Int32)) (fun f i s => wX_listNames_2 post pc ins wc rd wn un ch rf ct fd bs bc f (nI i) a1 a2 a3 a4 a5 a6 a7 a8 a9 a10 a11 a12 s.1 s.2 a15 a16 a17 a18) (fun i s => ∀ m, m < i → s.1 m = 0 ∧ s.2 m = -1) 5 0 (a13, a14) (by omega) (fun m hm => absurd hm (by omega)) ?_ ?_
  · intro f s hI
    obtain ⟨s, t⟩ := s
    exact pk_le 5 5 (fun _ => up_n29 hpc hn h1 hI H) (fun z => absurd z (by omega))
  · intro f i s hi hI hw
    obtain ⟨s, t⟩ := s
    have hI : ∀ m, m < i → s m = 0 ∧ t m = -1 := hI
    have e : (nI i).toNatClampNeg = i := nI_clamp (by omega)
    refine pk_le 5 i (fun z => absurd z (by omega)) (fun _ => ⟨pk_in i 5 hi, nm_r (show upd s (nI i).toNatClampNeg 0 = upd s i 0 by rw [e]) ⟨pk_in i 5 hi, nm_r (show upd t (nI i).toNatClampNeg (-1) = upd t i (-1) by rw [e]) (nm_r (nI_1 i) (hw (upd s i 0, upd t i (-1)) (fun m hm => ?_)))⟩⟩)
    show upd s i 0 m = 0 ∧ upd t i (-1) m = -1
    by_cases g : m = i
    · rw [g, pk_us, pk_us]; exact ⟨rfl, rfl⟩
    · rw [pk_un g, pk_un g]; exact hI m (by omega)
end
section
/-! the walk of listClashes and prepare -/
theorem up_lc58 {post : St1 → Prop} {pc ins wc rd wn un ch rf ct fd bs bc : Int32} {a1 a2 a3 a4 a5 a6 a7 a8 a9 a10 a11 a12 a13 a14 a15 a16 a17 a18 : Nat → Int32} {n p : Nat} {am : Int32} (hpc : pc = nI n) (hn : n ≤ 10)
    (H : ∀ s, (∀ j, j < n → s j = if up_b am j = true then a12 j ||| ((1 : Int32) <<< (nI p &&& 31)) else a12 j) → post (pc, ins, wc, rd, wn, un, ch, rf, ct, fd, bs, bc, a1, a2, a3, a4, a5, a6, a7, a8, a9, a10, a11, s, a13, a14, a15, a16, a17, a18)) :
    ∃ fu : Nat, wX_listClashes_58 post (nI p) am pc ins wc rd wn un ch rf ct fd bs bc fu 0 a1 a2 a3 a4 a5 a6 a7 a8 a9 a10 a11 a12 a13 a14 a15 a16 a17 a18 := by
  refine pk_loop (σ := Nat → Int32) (fun f i s => wX_listClashes_58 post (nI p) am pc ins wc rd wn un ch rf ct fd bs bc f (nI i) a1 a2 a3 a4 a5 a6 a7 a8 a9 a10 a11 s a13 a14 a15 a16 a17 a18) (fun i s => ∀ j, j < n → s j = if (j < i ∧ up_b am j = true) then a12 j ||| ((1 : Int32) <<< (nI p &&& 31)) else a12 j) n 0 a12 (by omega) (fun j hj => (if_neg (fun z => absurd z.1 (by omega))).symm) ?_ ?_
  · intro f s hI
    refine pk_le n n (fun _ => H s (fun j hj => ?_)) (fun z => absurd z (by omega)) (hx := hpc)
    rw [hI j hj]
    by_cases g : up_b am j = true
    · rw [if_pos ⟨hj, g⟩, if_pos g]
    · rw [if_neg (fun z => g z.2), if_neg g]
  · intro f i s hi hI hw
    have e : (nI i).toNatClampNeg = i := nI_clamp (by omega)
    refine pk_le n i (fun z => absurd z (by omega)) (fun _ => br_c (fun z => nm_r (nI_1 i) (hw s (fun j hj => ?_))) (fun z => ⟨pk_in i 10 (by omega), pk_in i 10 (by omega), nm_r (show upd s (nI i).toNatClampNeg (s (nI i).toNatClampNeg ||| ((1 : Int32) <<< (nI p &&& 31))) = upd s i (s i ||| ((1 : Int32) <<< (nI p &&& 31))) by rw [e]) (nm_r (nI_1 i) (hw _ (fun j hj => ?_)))⟩)) (hx := hpc)
    · have bf := (up_tst am i (by omega)).mp z
      rw [hI j hj]
      by_cases g : j < i ∧ up_b am j = true
      · rw [if_pos g, if_pos ⟨by omega, g.2⟩]
      · rw [if_neg g, if_neg]
        intro z2
        by_cases ej : j = i
        · rw [ej] at z2; exact up_tf z2.2 bf
        · exact g ⟨by omega, z2.2⟩
    · have bt := up_tt (fun g => z ((up_tst am i (by omega)).mpr g))
      by_cases ej : j = i
      · subst ej
        rw [pk_us, hI j hj, if_neg (fun z2 => absurd z2.1 (by omega)), if_pos ⟨by omega, bt⟩]
      · rw [pk_un ej, hI j hj]
        by_cases g : j < i ∧ up_b am j = true
        · rw [if_pos g, if_pos ⟨by omega, g.2⟩]
        · rw [if_neg g, if_neg]
          intro z2
          exact g ⟨by omega, z2.2⟩

theorem up_lc {post : St1 → Prop} {pc ins wc rd wn un ch rf ct fd bs bc : Int32} {a1 a2 a3 a4 a5 a6 a7 a8 a9 a10 a11 a12 a13 a14 a15 a16 a17 a18 : Nat → Int32} {n p : Nat} (hpc : pc = nI n) (hn : n ≤ 10) (hp : p < n) (h7 : ∃ j, j < 3 ∧ a7 p = nI j)
    (H : ∀ s, (∀ j, j < n → s j = up_cs (up_am n a1 a2 a3 a7 a8 p) p a12 j) → post (pc, ins, wc, rd, wn, un, ch, rf, ct, fd, bs, bc, a1, a2, a3, a4, a5, a6, a7, a8, a9, a10, a11, s, a13, a14, a15, a16, a17, a18)) : wpX_listClashes post (pc, ins, wc, rd, wn, un, ch, rf, ct, fd, bs, bc, a1, a2, a3, a4, a5, a6, a7, a8, a9, a10, a11, a12, a13, a14, a15, a16, a17, a18) (nI p) := by
  obtain ⟨c, hc, e7⟩ := h7
  have e : (nI p).toNatClampNeg = p := nI_clamp (by omega)
  have e7' : a7 (nI p).toNatClampNeg = nI c := by rw [e, e7]
  have ec : (a7 p).toNatClampNeg = c := up_clI (by omega) e7
  unfold wpX_listClashes
  refine pk_loop (σ := Unit) (fun f i _ => wX_listClashes_4 post (nI p) pc ins wc rd wn un ch rf ct fd bs bc a1 a2 a3 a4 a5 a6 a7 a8 a9 a10 a11 a12 a13 a14 a15 a16 a17 a18 f (up_ag n a1 a2 a3 a8 p i) (nI i)) (fun _ _ => True) c 0 () (by omega) trivial ?_ ?_
  · intro f _ _
    refine ⟨pk_in p 10 (by omega), pk_le c c (fun _ => nm_r (show up_ag n a1 a2 a3 a8 p c &&& (((1 : Int32) <<< (nI p &&& 31)) ^^^ (-1)) = up_am n a1 a2 a3 a7 a8 p by unfold up_am; rw [ec]) ⟨pk_in p 10 (by omega), pk_in p 10 (by omega), nm_r (show upd a12 (nI p).toNatClampNeg (a12 (nI p).toNatClampNeg ||| up_am n a1 a2 a3 a7 a8 p) = upd a12 p (a12 p ||| up_am n a1 a2 a3 a7 a8 p) by rw [e]) (up_lc58 hpc hn H)⟩) (fun z => absurd z (by omega)) (hx := e7')⟩
  · intro f i _ hi _ hw
    have e8 : a8 ((2 * nI p) + nI i).toNatClampNeg = a8 (2 * p + i) := by rw [up_ix, nI_clamp (by omega)]
    refine ⟨pk_in p 10 (by omega), pk_le c i (fun z => absurd z (by omega)) (fun _ => ⟨pk_in (2 * p + i) 20 (by omega) (hx := up_ix p i), ?_⟩) (hx := e7')⟩
    rw [e8]
    exact up_fitting hpc hn (nm_e (nm_r (nI_1 i) (hw () trivial)))

theorem up_i2 (a : Nat) : 2 * nI a = nI (2 * a) := by
  show nI 2 * nI a = _
  rw [pk_mul]
theorem up_p29 {post : St1 → Prop} {J19 : Int32 → (Nat → Int32) → (Nat → Int32) → (Nat → Int32) → (Nat → Int32) → (Nat → Int32) → (Nat → Int32) → (Nat → Int32) → (Nat → Int32) → (Nat → Int32) → (Nat → Int32) → (Nat → Int32) → (Nat → Int32) → (Nat → Int32) → (Nat → Int32) → (Nat → Int32) → (Nat → Int32) → (Nat → Int32) → (Nat → Int32) → Prop} {pc ins wc rd wn un ch rf ct fd bs bc : Int32} {a1 a2 a3 a4 a5 a6 a7 a8 a9 a10 a11 a12 a13 a14 a15 a16 a17 a18 : Nat → Int32} {n p m c : Nat} (hpc : pc = nI n) (hn : n ≤ 10) (hp : p < n) (hc : c < 3) (h4 : a4 p = nI c) (hm : m < 5) (h1 : a1 p = nI m)
    (HJ : ∀ s, (∀ x, x < 2 * p → s x = a11 x) → (∀ k, k < c → s (2 * p + k) = up_tg n a1 a2 a3 a5 a6 (2 * p + k)) → J19 (nI (p + 1)) a1 a2 a3 a4 a5 a6 a7 a8 a9 a10 s (upd a12 p (a13 m &&& (((1 : Int32) <<< (nI p &&& 31)) ^^^ (-1)))) a13 a14 a15 a16 a17 a18) :
    ∃ fu : Nat, wX_prepare_29 post J19 (nI p) pc ins wc rd wn un ch rf ct fd bs bc fu 0 a1 a2 a3 a4 a5 a6 a7 a8 a9 a10 a11 a12 a13 a14 a15 a16 a17 a18 := by
  have e : (nI p).toNatClampNeg = p := nI_clamp (by omega)
  have e4 : a4 (nI p).toNatClampNeg = nI c := by rw [e, h4]
  have e1 : a1 (nI p).toNatClampNeg = nI m := by rw [e, h1]
  refine pk_loop (σ := Nat → Int32) (fun f i s => wX_prepare_29 post J19 (nI p) pc ins wc rd wn un ch rf ct fd bs bc f (nI i) a1 a2 a3 a4 a5 a6 a7 a8 a9 a10 s a12 a13 a14 a15 a16 a17 a18) (fun i s => (∀ x, x < 2 * p → s x = a11 x) ∧ ∀ k, k < i → s (2 * p + k) = up_tg n a1 a2 a3 a5 a6 (2 * p + k)) c 0 a11 (by omega) ⟨fun _ _ => rfl, fun k hk => absurd hk (by omega)⟩ ?_ ?_
  · intro f s hI
    have em : (nI m).toNatClampNeg = m := nI_clamp (by omega)
    exact ⟨pk_in p 10 (by omega), pk_le c c (fun _ => ⟨pk_in p 10 (by omega), pk_in m 5 hm (hx := e1), pk_in p 10 (by omega), nm_r (show upd a12 (nI p).toNatClampNeg ((a13 (a1 (nI p).toNatClampNeg).toNatClampNeg) &&& (((1 : Int32) <<< (nI p &&& 31)) ^^^ (-1))) = upd a12 p (a13 m &&& (((1 : Int32) <<< (nI p &&& 31)) ^^^ (-1))) by rw [e1, e, em]) (nm_r (nI_1 p) (HJ s hI.1 hI.2))⟩) (fun z => absurd z (by omega)) (hx := e4)⟩
  · intro f i s hi hI hw
    obtain ⟨hI1, hI2⟩ := hI
    have ea : (nI (2 * p + i)).toNatClampNeg = 2 * p + i := nI_clamp (by omega)
    have eb : (2 * nI (2 * p + i)).toNatClampNeg = 2 * (2 * p + i) := by rw [up_i2, nI_clamp (by omega)]
    have ed : (2 * nI (2 * p + i) + 1).toNatClampNeg = 2 * (2 * p + i) + 1 := by rw [up_i2, nI_1, nI_clamp (by omega)]
    have nx : ∀ v, v = up_tg n a1 a2 a3 a5 a6 (2 * p + i) → ∀ s', (∀ x, x ≠ 2 * p + i → s' x = s x) → s' (2 * p + i) = v → wX_prepare_29 post J19 (nI p) pc ins wc rd wn un ch rf ct fd bs bc f (nI (i + 1)) a1 a2 a3 a4 a5 a6 a7 a8 a9 a10 s' a12 a13 a14 a15 a16 a17 a18 := by
      intro v hv s' hs' hsv
      refine hw s' ⟨fun x hx => ?_, fun k hk => ?_⟩
      · rw [hs' x (by omega)]; exact hI1 x hx
      · by_cases g : k = i
        · rw [g, hsv, hv]
        · rw [hs' _ (by omega)]; exact hI2 k (by omega)
    refine ⟨pk_in p 10 (by omega), pk_le c i (fun z => absurd z (by omega)) (fun _ => nm_r (up_ix p i) ?_) (hx := e4)⟩
    rw [ea, eb, ed]
    refine ⟨pk_in (2 * (2 * p + i)) 40 (by omega) (hx := up_i2 _), up_fitting hpc hn ⟨pk_in (2 * p + i) 20 (by omega), nm_e ⟨pk_in (2 * p + i) 20 (by omega), br_c (fun z => ⟨pk_in (2 * p + i) 20 (by omega), pk_in (2 * (2 * p + i) + 1) 40 (by omega) (hx := by rw [up_i2, nI_1]), up_fitting hpc hn ⟨pk_in (2 * p + i) 20 (by omega), nm_e (nm_r (nI_1 i) (nx _ (if_pos z).symm _ (fun x hx => ?_) ?_))⟩⟩) (fun z => nm_r (nI_1 i) (nx _ (if_neg z).symm _ (fun x hx => pk_un hx) pk_us))⟩⟩⟩
    · rw [pk_un hx, pk_un hx]
    · rw [pk_us, pk_us]

theorem up_p166 {post : St1 → Prop} {pc ins wc rd ch rf ct fd bs bc : Int32} {a1 a2 a3 a4 a5 a6 a7 a8 a9 a10 a11 a12 a13 a14 a15 a16 a17 a18 : Nat → Int32} {w : Nat} (hwc : wc = nI w) (hw4 : w ≤ 4) (H : post (pc, ins, wc, rd, up_wn a9 a10 w, up_un a9 a10 w, ch, rf, ct, fd, bs, bc, a1, a2, a3, a4, a5, a6, a7, a8, a9, a10, a11, a12, a13, a14, a15, a16, a17, a18)) :
    ∃ fu : Nat, wX_prepare_166 post pc ins wc rd ch rf ct fd bs bc a1 a2 a3 a4 a5 a6 a7 a8 a9 a10 a11 a12 a13 a14 a15 a16 a17 a18 fu 0 0 0 := by
  refine pk_loop (σ := Unit) (fun f i _ => wX_prepare_166 post pc ins wc rd ch rf ct fd bs bc a1 a2 a3 a4 a5 a6 a7 a8 a9 a10 a11 a12 a13 a14 a15 a16 a17 a18 f (nI i) (up_wn a9 a10 i) (up_un a9 a10 i)) (fun _ _ => True) w 0 () (by omega) trivial (fun f _ _ => pk_le w w (fun _ => H) (fun z => absurd z (by omega)) (hx := hwc)) ?_
  intro f i _ hi _ hw
  have hw' : wX_prepare_166 post pc ins wc rd ch rf ct fd bs bc a1 a2 a3 a4 a5 a6 a7 a8 a9 a10 a11 a12 a13 a14 a15 a16 a17 a18 f (nI (i + 1)) (up_wn a9 a10 (i + 1)) (up_un a9 a10 (i + 1)) := hw () trivial
  have e : (nI i).toNatClampNeg = i := nI_clamp (by omega)
  refine pk_le w i (fun z => absurd z (by omega)) (fun _ => ?_) (hx := hwc)
  rw [e]
  refine ⟨pk_in i 4 (by omega), br_c (fun z => ⟨pk_in i 4 (by omega), nm_r (show up_un a9 a10 i ||| ((1 : Int32) <<< (a9 i &&& 31)) = up_un a9 a10 (i + 1) from (if_pos z).symm) (nm_r (nI_1 i) ?_)⟩) (fun z => ⟨pk_in i 4 (by omega), nm_r (show up_wn a9 a10 i ||| ((1 : Int32) <<< (a9 i &&& 31)) = up_wn a9 a10 (i + 1) from (if_neg z).symm) (nm_r (nI_1 i) ?_)⟩)⟩
  · have q : up_wn a9 a10 (i + 1) = up_wn a9 a10 i := if_pos z
    rw [q] at hw'
    exact hw'
  · have q : up_un a9 a10 (i + 1) = up_un a9 a10 i := if_neg z
    rw [q] at hw'
    exact hw'

theorem up_p135 {post : St1 → Prop} {pc ins wc rd wn un ch rf ct fd bs bc : Int32} {a1 a2 a3 a4 a5 a6 a7 a8 a9 a10 a11 a12 a13 a14 a15 a16 a17 a18 : Nat → Int32} {n w : Nat} (hpc : pc = nI n) (hn : n ≤ 10) (hwc : wc = nI w) (hw4 : w ≤ 4) (h7 : ∀ p, p < 10 → ∃ j, j < 3 ∧ a7 p = nI j)
    (he : ∀ j, j < n → a12 j = up_e0 n a1 j)
    (H : ∀ s, (∀ j, j < n → s j = up_ec n a1 a2 a3 a7 a8 n j) → post (pc, ins, wc, rd, up_wn a9 a10 w, up_un a9 a10 w, ch, rf, ct, fd, bs, bc, a1, a2, a3, a4, a5, a6, a7, a8, a9, a10, a11, s, a13, a14, a15, a16, a17, a18)) :
    ∃ fu : Nat, wX_prepare_135 post fu 0 pc ins wc rd wn un ch rf ct fd bs bc a1 a2 a3 a4 a5 a6 a7 a8 a9 a10 a11 a12 a13 a14 a15 a16 a17 a18 := by
  refine pk_loop (σ := Nat → Int32) (fun f i s => wX_prepare_135 post f (nI i) pc ins wc rd wn un ch rf ct fd bs bc a1 a2 a3 a4 a5 a6 a7 a8 a9 a10 a11 s a13 a14 a15 a16 a17 a18) (fun i s => ∀ j, j < n → s j = up_ec n a1 a2 a3 a7 a8 i j) n 0 a12 (by omega) he ?_ ?_
  · intro f s hI
    exact pk_le n n (fun _ => up_p166 hwc hw4 (H s hI)) (fun z => absurd z (by omega)) (hx := hpc)
  · intro f i s hi hI hw
    refine pk_le n i (fun z => absurd z (by omega)) (fun _ => up_lc hpc hn hi (h7 i (by omega)) (fun s' hs' => nm_r (nI_1 i) (hw s' (fun j hj => ?_)))) (hx := hpc)
    rw [hs' j hj]
    show up_cs _ i s j = up_cs _ i (up_ec n a1 a2 a3 a7 a8 i) j
    have eu : upd s i (s i ||| up_am n a1 a2 a3 a7 a8 i) j = upd (up_ec n a1 a2 a3 a7 a8 i) i (up_ec n a1 a2 a3 a7 a8 i i ||| up_am n a1 a2 a3 a7 a8 i) j := by
      by_cases g : j = i
      · rw [g, pk_us, pk_us, hI i hi]
      · rw [pk_un g, pk_un g, hI j hj]
    unfold up_cs
    rw [eu]

theorem up_p19 {post : St1 → Prop} {pc ins wc rd wn un ch rf ct fd bs bc : Int32} {a1 a2 a3 a4 a5 a6 a7 a8 a9 a10 a11 a12 a13 a14 a15 a16 a17 a18 : Nat → Int32} {n w : Nat} (hpc : pc = nI n) (hn : n ≤ 10) (hwc : wc = nI w) (hw4 : w ≤ 4) (h1 : ∀ p, p < n → ∃ j, j < 5 ∧ a1 p = nI j) (h4 : ∀ p, p < 10 → ∃ j, j < 3 ∧ a4 p = nI j) (h7 : ∀ p, p < 10 → ∃ j, j < 3 ∧ a7 p = nI j)
    (hs : ∀ m, m < 5 → a13 m = up_sh a1 m n)
    (H : ∀ wn un s t, (up_sp n w a1 a2 a3 a4 a5 a6 a7 a8 a9 a10 wn un s t a13) → post (pc, ins, wc, rd, wn, un, ch, rf, ct, fd, bs, bc, a1, a2, a3, a4, a5, a6, a7, a8, a9, a10, s, t, a13, a14, a15, a16, a17, a18)) :
    ∃ fu : Nat, wX_prepare_19 post pc ins wc rd wn un ch rf ct fd bs bc fu 0 a1 a2 a3 a4 a5 a6 a7 a8 a9 a10 a11 a12 a13 a14 a15 a16 a17 a18 := by
  refine pk_loop (σ := (Nat → Int32) × (Nat → Int32)) (fun f i s => wX_prepare_19 post pc ins wc rd wn un ch rf ct fd bs bc f (nI i) a1 a2 a3 a4 a5 a6 a7 a8 a9 a10 s.1 s.2 a13 a14 a15 a16 a17 a18) (fun i s => (∀ p, p < i → ∀ k, k < (a4 p).toNatClampNeg → s.1 (2 * p + k) = up_tg n a1 a2 a3 a5 a6 (2 * p + k)) ∧ ∀ p, p < i → s.2 p = up_e0 n a1 p) n 0 (a11, a12) (by omega) ⟨fun p hp => absurd hp (by omega), fun p hp => absurd hp (by omega)⟩ ?_ ?_
  · intro f s hI
    obtain ⟨s, t⟩ := s
    exact pk_le n n (fun _ => up_p135 hpc hn hwc hw4 h7 hI.2 (fun t' ht' => H _ _ s t' ⟨hI.1, ht', hs, rfl, rfl⟩)) (fun z => absurd z (by omega)) (hx := hpc)
  · intro f i s hi hI hw
    obtain ⟨s, t⟩ := s
    obtain ⟨hI1, hI2⟩ := hI
    have hI1 : ∀ p, p < i → ∀ k, k < (a4 p).toNatClampNeg → s (2 * p + k) = up_tg n a1 a2 a3 a5 a6 (2 * p + k) := hI1
    have hI2 : ∀ p, p < i → t p = up_e0 n a1 p := hI2
    obtain ⟨m, hm, em⟩ := h1 i hi
    obtain ⟨c, hc, ec⟩ := h4 i (by omega)
    refine pk_le n i (fun z => absurd z (by omega)) (fun _ => up_p29 hpc hn hi hc ec hm em (fun s' hs1 hs2 => hw (s', upd t i (a13 m &&& (((1 : Int32) <<< (nI i &&& 31)) ^^^ (-1)))) ⟨fun p hp k hk => ?_, fun p hp => ?_⟩)) (hx := hpc)
    · show s' (2 * p + k) = _
      by_cases g : p = i
      · rw [g] at hk ⊢
        rw [up_clI (by omega) ec] at hk
        exact hs2 k hk
      · obtain ⟨c', hc', ec'⟩ := h4 p (by omega)
        have hk' := hk
        rw [up_clI (by omega) ec'] at hk'
        rw [hs1 _ (by omega)]
        exact hI1 p (by omega) k hk
    · show upd t i _ p = _
      by_cases g : p = i
      · rw [g, pk_us]
        unfold up_e0
        rw [up_clI (by omega) em, hs m hm]
      · rw [pk_un g]
        exact hI2 p (by omega)

theorem up_prep {post : St1 → Prop} {pc ins wc rd wn un ch rf ct fd bs bc : Int32} {a1 a2 a3 a4 a5 a6 a7 a8 a9 a10 a11 a12 a13 a14 a15 a16 a17 a18 : Nat → Int32} {n w : Nat} (hI : (up_I n w pc ins wc rd wn un a1 a2 a3 a4 a5 a6 a7 a8 a9 a10 a11 a12 a13))
    (H : ∀ rd wn un a11 a12 a13 a14, ¬ rd = 0 → (up_sp n w a1 a2 a3 a4 a5 a6 a7 a8 a9 a10 wn un a11 a12 a13) → post (pc, ins, wc, rd, wn, un, ch, rf, ct, fd, bs, bc, a1, a2, a3, a4, a5, a6, a7, a8, a9, a10, a11, a12, a13, a14, a15, a16, a17, a18)) : wpX_prepare post (pc, ins, wc, rd, wn, un, ch, rf, ct, fd, bs, bc, a1, a2, a3, a4, a5, a6, a7, a8, a9, a10, a11, a12, a13, a14, a15, a16, a17, a18) := by
  obtain ⟨hpc, hn, hwc, hw4, _, h1, h4, h7, hsp⟩ := hI
  unfold wpX_prepare
  refine br_c (fun z => ?_) (fun z => H rd wn un a11 a12 a13 a14 z (hsp z))
  exact up_listNames hpc hn h1 (fun s t hs => up_p19 hpc hn hwc hw4 h1 h4 h7 hs (fun wn un a11 a12 hs' => H 1 wn un a11 a12 s t (by decide) hs'))
end
section
/-! search, best, cost, rightSets, right -/
theorem up_search {post : St1 → Prop} {pc ins wc rd wn un ch rf ct fd bs bc : Int32} {a1 a2 a3 a4 a5 a6 a7 a8 a9 a10 a11 a12 a13 a14 a15 a16 a17 a18 : Nat → Int32} {n w : Nat} {p0 : Int32} (hI : (up_I n w pc ins wc rd wn un a1 a2 a3 a4 a5 a6 a7 a8 a9 a10 a11 a12 a13)) (hp0 : p0 = 0 ∨ p0 = 1)
    (H : ∀ rd wn un ch rf fd bs bc a11 a12 a13 a14 a15 a16 a17 a18, (up_I n w pc ins wc rd wn un a1 a2 a3 a4 a5 a6 a7 a8 a9 a10 a11 a12 a13) → up_F (up_R n w a1 a2 a3 a4 a5 a6 a7 a8 a9 a10) ins fd bs bc → post (pc, ins, wc, rd, wn, un, ch, rf, p0, fd, bs, bc, a1, a2, a3, a4, a5, a6, a7, a8, a9, a10, a11, a12, a13, a14, a15, a16, a17, a18)) : wpX_search post (pc, ins, wc, rd, wn, un, ch, rf, ct, fd, bs, bc, a1, a2, a3, a4, a5, a6, a7, a8, a9, a10, a11, a12, a13, a14, a15, a16, a17, a18) p0 := by
  unfold wpX_search
  refine up_prep hI (fun rd' wn' un' s e sh t hrd hsp => ⟨?_, ?_, ?_⟩)
  · rcases hp0 with g | g <;> subst g <;> decide
  · rcases hp0 with g | g <;> subst g <;> decide
  · have tb := up_sp_tb (rd' := rd') hI hsp
    have hI2 := hI
    obtain ⟨hpc, hn, hwc, hw4, hin, h1, h4, h7, _⟩ := hI2
    have hI' : (up_I n w pc ins wc rd' wn' un' a1 a2 a3 a4 a5 a6 a7 a8 a9 a10 s e sh) := ⟨hpc, hn, hwc, hw4, hin, h1, h4, h7, fun _ => hsp⟩
    have eR := up_sp_R hsp
    have fin : ∀ ch rf fd bs bc a15 a16 a17 a18, up_F (up_rt n a4 s e sh wn' un') ins fd bs bc → post (pc, ins, wc, rd', wn', un', ch, rf, p0, fd, bs, bc, a1, a2, a3, a4, a5, a6, a7, a8, a9, a10, s, e, sh, t, a15, a16, a17, a18) := by
      intro ch rf fd bs bc a15 a16 a17 a18 hF
      rw [eR] at hF
      exact H rd' wn' un' ch rf fd bs bc s e sh t a15 a16 a17 a18 hI' hF
    have z0 : ∀ S, up_con 0 0 S := fun S => ⟨fun i h => absurd h (by rw [up_0]; decide), fun i h => absurd h (by rw [up_0]; decide)⟩
    refine up_prop hpc tb (up_in0 n) (up_in0 n) (fun c r hno => br_t rfl ⟨3070, ?_⟩) (fun c r hs hd hck => br_f (by decide) ?_)
    · refine up_s54 hpc tb hin fin 3070 0 0 c r 0 (-3) 4096 a15 a16 a17 a18 (by omega) ⟨fun j hj => absurd hj (by omega), ?_, ⟨0, by omega, rfl, Or.inl ⟨rfl, rfl, rfl⟩⟩, fun S hS => absurd (z0 S) (hno S hS)⟩
      show 0 + 0 ≤ 3069
      omega
    · refine up_branch (R := up_rt n a4 s e sh wn' un') (n := n) (st := 0) (D := 0) (k := 0) hpc hn hin up_rtn hs.1 hs.2.1 hd (up_leaf tb hs.1 hd hck) (by omega) (fun j hj => absurd hj (by omega)) ?_ (by omega) rfl (Or.inl ⟨rfl, rfl, rfl⟩) (fun S hS => Or.inr (Or.inr (hs.2.2.2.2 S hS (z0 S)))) (fun D' fd' bs' bc' b15 b16 b17 b18 hJ => ⟨3070, up_s54 hpc tb hin fin 3070 0 D' c r fd' bs' bc' b15 b16 b17 b18 (by omega) hJ⟩)
      show 0 + 0 + up_w (n - up_pp (c ||| r) n) ≤ 3069
      have := up_w10 (show n - up_pp (c ||| r) n ≤ 10 by omega)
      omega

theorem up_bestw {post : Int32 → St1 → Prop} {pc ins wc rd wn un ch rf ct fd bs bc : Int32} {a1 a2 a3 a4 a5 a6 a7 a8 a9 a10 a11 a12 a13 a14 a15 a16 a17 a18 : Nat → Int32} {n w : Nat} (hI : (up_I n w pc ins wc rd wn un a1 a2 a3 a4 a5 a6 a7 a8 a9 a10 a11 a12 a13))
    (H : ∀ rd wn un ch rf fd bs bc a11 a12 a13 a14 a15 a16 a17 a18, (up_I n w pc ins wc rd wn un a1 a2 a3 a4 a5 a6 a7 a8 a9 a10 a11 a12 a13) → up_F (up_R n w a1 a2 a3 a4 a5 a6 a7 a8 a9 a10) ins fd bs bc → post bs (pc, ins, wc, rd, wn, un, ch, rf, 0, fd, bs, bc, a1, a2, a3, a4, a5, a6, a7, a8, a9, a10, a11, a12, a13, a14, a15, a16, a17, a18)) : wpX_best post (pc, ins, wc, rd, wn, un, ch, rf, ct, fd, bs, bc, a1, a2, a3, a4, a5, a6, a7, a8, a9, a10, a11, a12, a13, a14, a15, a16, a17, a18) := by
  unfold wpX_best
  exact up_search hI (Or.inl rfl) H
theorem up_rsets {post : Int32 → St1 → Prop} {pc ins wc rd wn un ch rf ct fd bs bc : Int32} {a1 a2 a3 a4 a5 a6 a7 a8 a9 a10 a11 a12 a13 a14 a15 a16 a17 a18 : Nat → Int32} {n w : Nat} (hI : (up_I n w pc ins wc rd wn un a1 a2 a3 a4 a5 a6 a7 a8 a9 a10 a11 a12 a13))
    (H : ∀ rd wn un ch rf fd bs bc a11 a12 a13 a14 a15 a16 a17 a18, (up_I n w pc ins wc rd wn un a1 a2 a3 a4 a5 a6 a7 a8 a9 a10 a11 a12 a13) → up_F (up_R n w a1 a2 a3 a4 a5 a6 a7 a8 a9 a10) ins fd bs bc → post fd (pc, ins, wc, rd, wn, un, ch, rf, 1, fd, bs, bc, a1, a2, a3, a4, a5, a6, a7, a8, a9, a10, a11, a12, a13, a14, a15, a16, a17, a18)) : wpX_rightSets post (pc, ins, wc, rd, wn, un, ch, rf, ct, fd, bs, bc, a1, a2, a3, a4, a5, a6, a7, a8, a9, a10, a11, a12, a13, a14, a15, a16, a17, a18) := by
  unfold wpX_rightSets
  exact up_search hI (Or.inr rfl) H
theorem up_cost0 : ∀ v, v < 16 → ∀ k, k < 2 → (nI v >>> ((8 - (4 * nI k)) &&& 31)) &&& 15 = 0 := by decide +kernel
/-- cost(k), k = 0 or 1, when the installed set is right, or when no set is -/
theorem up_costw {post : Int32 → St1 → Prop} {pc ins wc rd wn un ch rf ct fd bs bc : Int32} {a1 a2 a3 a4 a5 a6 a7 a8 a9 a10 a11 a12 a13 a14 a15 a16 a17 a18 : Nat → Int32} {n w k : Nat} (hI : (up_I n w pc ins wc rd wn un a1 a2 a3 a4 a5 a6 a7 a8 a9 a10 a11 a12 a13)) (hk : k < 2)
    (hR : (up_R n w a1 a2 a3 a4 a5 a6 a7 a8 a9 a10) ins ∨ ∀ S, ¬ (up_R n w a1 a2 a3 a4 a5 a6 a7 a8 a9 a10) S)
    (H : ∀ r rd wn un ch rf fd bs bc a11 a12 a13 a14 a15 a16 a17 a18, (up_I n w pc ins wc rd wn un a1 a2 a3 a4 a5 a6 a7 a8 a9 a10 a11 a12 a13) → ((up_R n w a1 a2 a3 a4 a5 a6 a7 a8 a9 a10) ins → r = 0) → ((∀ S, ¬ (up_R n w a1 a2 a3 a4 a5 a6 a7 a8 a9 a10) S) → r = -3) → post r (pc, ins, wc, rd, wn, un, ch, rf, 0, fd, bs, bc, a1, a2, a3, a4, a5, a6, a7, a8, a9, a10, a11, a12, a13, a14, a15, a16, a17, a18)) : wpX_cost post (pc, ins, wc, rd, wn, un, ch, rf, ct, fd, bs, bc, a1, a2, a3, a4, a5, a6, a7, a8, a9, a10, a11, a12, a13, a14, a15, a16, a17, a18) (nI k) := by
  unfold wpX_cost
  refine br_f (nI_pos (by omega)) (pk_le k 2 (fun _ => up_search hI (Or.inl rfl) ?_) (fun z => absurd z (by omega)))
  intro rd wn un ch rf fd bs bc a11 a12 a13 a14 a15 a16 a17 a18 hI' hF
  rcases hF with ⟨_, hbs, hno⟩ | ⟨_, hRb, hin⟩
  · exact br_f (by rw [hbs]; decide) (H _ rd wn un ch rf fd bs bc a11 a12 a13 a14 a15 a16 a17 a18 hI' (fun g => absurd g (hno ins)) (fun _ => rfl))
  · have h0 : 0 ≤ bs := by
      obtain ⟨x, hx, ex⟩ := up_innI hI.2.1 (up_rtn _ hRb)
      have := up_p2b hI.2.1
      rw [ex]
      exact nI_pos' (by omega)
    have hRi : (up_R n w a1 a2 a3 a4 a5 a6 a7 a8 a9 a10) ins := hR.elim id (fun g => absurd hRb (g bs))
    obtain ⟨_, v, hv, hbc⟩ := hin hRi
    refine br_t h0 (H _ rd wn un ch rf fd bs bc a11 a12 a13 a14 a15 a16 a17 a18 hI' (fun _ => ?_) (fun g => absurd hRb (g bs)))
    rw [hbc]
    exact up_cost0 v hv k hk

theorem up_isSet {post : Int32 → Prop} {pc ins wc rd wn un ch rf ct fd bs bc : Int32} {a1 a2 a3 a4 a5 a6 a7 a8 a9 a10 a11 a12 a13 a14 a15 a16 a17 a18 : Nat → Int32} {n : Nat} {x : Int32} (hpc : pc = nI n) (hn : n ≤ 10) (H1 : up_in n x → post 1) (H0 : ¬ up_in n x → post 0) : wpX_isSet post (pc, ins, wc, rd, wn, un, ch, rf, ct, fd, bs, bc, a1, a2, a3, a4, a5, a6, a7, a8, a9, a10, a11, a12, a13, a14, a15, a16, a17, a18) x := by
  unfold wpX_isSet
  rw [hpc]
  refine br_c (fun z => H0 (fun g => (up_inlt hn g).1 z)) (fun z => br_c (fun z2 => H0 (fun g => (up_inlt hn g).2 z2)) (fun z2 => H1 (up_ltin hn z z2)))

theorem up_right {post : Int32 → St1 → Prop} {pc ins wc rd wn un ch rf ct fd bs bc : Int32} {a1 a2 a3 a4 a5 a6 a7 a8 a9 a10 a11 a12 a13 a14 a15 a16 a17 a18 : Nat → Int32} {n w : Nat} {S : Int32} (hI : (up_I n w pc ins wc rd wn un a1 a2 a3 a4 a5 a6 a7 a8 a9 a10 a11 a12 a13)) (hS : (up_R n w a1 a2 a3 a4 a5 a6 a7 a8 a9 a10) S)
    (H : ∀ rd wn un a11 a12 a13 a14, (up_I n w pc ins wc rd wn un a1 a2 a3 a4 a5 a6 a7 a8 a9 a10 a11 a12 a13) → post 1 (pc, ins, wc, rd, wn, un, ch, rf, ct, fd, bs, bc, a1, a2, a3, a4, a5, a6, a7, a8, a9, a10, a11, a12, a13, a14, a15, a16, a17, a18)) : wpX_right post (pc, ins, wc, rd, wn, un, ch, rf, ct, fd, bs, bc, a1, a2, a3, a4, a5, a6, a7, a8, a9, a10, a11, a12, a13, a14, a15, a16, a17, a18) S := by
  have hI2 := hI
  obtain ⟨hpc, hn, hwc, hw4, hin, h1, h4, h7, _⟩ := hI2
  unfold wpX_right
  refine up_isSet hpc hn (fun _ => br_f (by decide) (up_prep hI (fun rd' wn' un' s e sh t hrd hsp => ?_))) (fun g => absurd hS.1 g)
  have tb := up_sp_tb (rd' := rd') hI hsp
  have hI' : (up_I n w pc ins wc rd' wn' un' a1 a2 a3 a4 a5 a6 a7 a8 a9 a10 s e sh) := ⟨hpc, hn, hwc, hw4, hin, h1, h4, h7, fun _ => hsp⟩
  rw [← up_sp_R hsp] at hS
  have fin := H rd' wn' un' s e sh t hI'
  refine pk_loop (σ := Unit) (fun f i _ => wX_right_16 post S pc ins wc rd' wn' un' ch rf ct fd bs bc a1 a2 a3 a4 a5 a6 a7 a8 a9 a10 s e sh t a15 a16 a17 a18 f (nI i)) (fun _ _ => True) n 0 () (by omega) trivial ?_ ?_
  · intro f _ _
    refine pk_le n n (fun _ => ?_) (fun z => absurd z (by omega)) (hx := hpc)
    refine pk_loop (σ := Unit) (fun f i _ => wX_right_91 post S pc ins wc rd' wn' un' ch rf ct fd bs bc a1 a2 a3 a4 a5 a6 a7 a8 a9 a10 s e sh t a15 a16 a17 a18 f (nI i)) (fun _ _ => True) 5 0 () (by omega) trivial (fun f _ _ => pk_le 5 5 (fun _ => fin) (fun z => absurd z (by omega))) ?_
    intro f i _ hi _ hw
    have em : (nI i).toNatClampNeg = i := nI_clamp (by omega)
    refine pk_le 5 i (fun z => absurd z (by omega)) (fun _ => ?_)
    rw [em]
    refine ⟨pk_in i 5 hi, br_c (fun z => ?_) (fun z => ?_)⟩
    · unfold wX_right_112
      refine br_t rfl (br_c (fun z2 => ?_) (fun z2 => ?_))
      · unfold wX_right_130
        exact br_t rfl (nm_r (nI_1 i) (hw () trivial))
      · exfalso
        obtain ⟨x, x1, x2⟩ := (hS.2.2 i hi).1 (up_tt (fun g => z2 ((up_tst wn' i (by omega)).mpr g)))
        exact up_tf x2 (up_andz.mp z x x1)
    · unfold wX_right_112
      refine br_f (by decide) ?_
      unfold wX_right_130
      refine br_f (by decide) (br_c (fun z2 => nm_r (nI_1 i) (hw () trivial)) (fun z2 => ?_))
      exfalso
      obtain ⟨x, x1, x2⟩ := up_andnz z
      exact up_tf x2 ((hS.2.2 i hi).2 (up_tt (fun g => z2 ((up_tst un' i (by omega)).mpr g))) x x1)
  · intro f i _ hi _ hw
    have ei : (nI i).toNatClampNeg = i := nI_clamp (by omega)
    refine pk_le n i (fun z => absurd z (by omega)) (fun _ => br_c (fun z => nm_r (nI_1 i) (hw () trivial)) (fun z => ⟨pk_in i 10 (by omega), ?_⟩)) (hx := hpc)
    have hSi := up_tt (fun g => z ((up_tst S i (by omega)).mpr g))
    obtain ⟨c, hc, ec⟩ := h4 i (by omega)
    have ecc := up_clI (by omega) ec
    have e4 : a4 (nI i).toNatClampNeg = nI c := by rw [ei, ec]
    refine br_t (by rw [ei]; exact up_andz.mpr ((hS.2.1 i hi hSi).1)) ?_
    refine pk_loop (σ := Unit) (fun g k _ => wX_right_50 post (wX_right_16 post S pc ins wc rd' wn' un' ch rf ct fd bs bc a1 a2 a3 a4 a5 a6 a7 a8 a9 a10 s e sh t a15 a16 a17 a18 f) S (nI i) pc ins wc rd' wn' un' ch rf ct fd bs bc a1 a2 a3 a4 a5 a6 a7 a8 a9 a10 s e sh t a15 a16 a17 a18 g (nI k)) (fun _ _ => True) c 0 () (by omega) trivial ?_ ?_
    · intro g _ _
      exact ⟨pk_in i 10 (by omega), pk_le c c (fun _ => nm_r (nI_1 i) (hw () trivial)) (fun z => absurd z (by omega)) (hx := e4)⟩
    · intro g k _ hk _ hw2
      have e11 : s ((2 * nI i) + nI k).toNatClampNeg = s (2 * i + k) := by rw [up_ix, nI_clamp (by omega)]
      refine ⟨pk_in i 10 (by omega), pk_le c k (fun z => absurd z (by omega)) (fun _ => ⟨pk_in (2 * i + k) 20 (by omega) (hx := up_ix i k), br_f ?_ (nm_r (nI_1 k) (hw2 () trivial))⟩) (hx := e4)⟩
      rw [e11]
      intro z3
      obtain ⟨x, x1, x2⟩ := (hS.2.1 i hi hSi).2 k (by rw [ecc]; exact hk)
      exact up_tf x2 (up_andz.mp z3 x x1)
end
section
/-! the calls that change the packages, and drive -/
theorem up_isPk {post : Int32 → Prop} {pc ins wc rd wn un ch rf ct fd bs bc : Int32} {a1 a2 a3 a4 a5 a6 a7 a8 a9 a10 a11 a12 a13 a14 a15 a16 a17 a18 : Nat → Int32} {n : Nat} {x : Int32} (hpc : pc = nI n) (hn : n ≤ 10) (H0 : post 0) (H1 : ∀ p, p < n → x = nI p → post 1) : wpX_isPackage post (pc, ins, wc, rd, wn, un, ch, rf, ct, fd, bs, bc, a1, a2, a3, a4, a5, a6, a7, a8, a9, a10, a11, a12, a13, a14, a15, a16, a17, a18) x := by
  unfold wpX_isPackage
  refine br_c (fun _ => H0) (fun z => br_c (fun _ => H0) (fun z2 => ?_))
  obtain ⟨j, hj, ej⟩ := nI_of z
  rw [hpc, ej, nI_leI (by omega) hj] at z2
  exact H1 j (by omega) ej
theorem up_isPt {post : Int32 → Prop} {pc ins wc rd wn un ch rf ct fd bs bc : Int32} {a1 a2 a3 a4 a5 a6 a7 a8 a9 a10 a11 a12 a13 a14 a15 a16 a17 a18 : Nat → Int32} {x y z : Int32} (H0 : post 0) (H1 : post 1) : wpX_isPattern post (pc, ins, wc, rd, wn, un, ch, rf, ct, fd, bs, bc, a1, a2, a3, a4, a5, a6, a7, a8, a9, a10, a11, a12, a13, a14, a15, a16, a17, a18) x y z := by
  unfold wpX_isPattern
  exact br_c (fun _ => br_c (fun _ => H0) (fun _ => br_c (fun _ => H0) (fun _ => br_c (fun _ => H0) (fun _ => br_c (fun _ => H0) (fun _ => H1))))) (fun _ => br_c (fun _ => H0) (fun _ => br_c (fun _ => H0) (fun _ => H1)))
theorem up_patOf {post : Int32 → Prop} {pc ins wc rd wn un ch rf ct fd bs bc : Int32} {a1 a2 a3 a4 a5 a6 a7 a8 a9 a10 a11 a12 a13 a14 a15 a16 a17 a18 : Nat → Int32} {x y z : Int32} (H : ∀ r, post r) : wpX_patternOf post (pc, ins, wc, rd, wn, un, ch, rf, ct, fd, bs, bc, a1, a2, a3, a4, a5, a6, a7, a8, a9, a10, a11, a12, a13, a14, a15, a16, a17, a18) x y z := by
  unfold wpX_patternOf
  exact br_c (fun _ => H _) (fun _ => H _)
theorem up_cnt {a : Nat → Int32} {p c : Nat} (hc : c < 2) (h : ∀ q, q < 10 → ∃ j, j < 3 ∧ a q = nI j) : ∀ q, q < 10 → ∃ j, j < 3 ∧ upd a p (nI (c + 1)) q = nI j := by
  intro q hq
  by_cases g : q = p
  · exact ⟨c + 1, by omega, by rw [g, pk_us]⟩
  · rw [pk_un g]; exact h q hq
theorem up_cinc {a : Nat → Int32} {p c : Nat} (hp : p < 10) (hc : c < 2) (h : a p = nI c) : upd a (nI p).toNatClampNeg ((a (nI p).toNatClampNeg + 1).toInt8.toInt32) = upd a p (nI (c + 1)) := by
  rw [nI_clamp (by omega), h, nI_1, up_i8 (c + 1) (by omega)]

theorem up_need {post : Int32 → St1 → Prop} {pc ins wc rd wn un ch rf ct fd bs bc : Int32} {a1 a2 a3 a4 a5 a6 a7 a8 a9 a10 a11 a12 a13 a14 a15 a16 a17 a18 : Nat → Int32} {n w : Nat} {p0 p1 p2 p3 : Int32} (hI : (up_I n w pc ins wc rd wn un a1 a2 a3 a4 a5 a6 a7 a8 a9 a10 a11 a12 a13)) (H : ∀ r rd a4 a5 a6, (up_I n w pc ins wc rd wn un a1 a2 a3 a4 a5 a6 a7 a8 a9 a10 a11 a12 a13) → post r (pc, ins, wc, rd, wn, un, ch, rf, ct, fd, bs, bc, a1, a2, a3, a4, a5, a6, a7, a8, a9, a10, a11, a12, a13, a14, a15, a16, a17, a18)) : wpX_need post (pc, ins, wc, rd, wn, un, ch, rf, ct, fd, bs, bc, a1, a2, a3, a4, a5, a6, a7, a8, a9, a10, a11, a12, a13, a14, a15, a16, a17, a18) p0 p1 p2 p3 := by
  have hz := fun r => H r rd a4 a5 a6 hI
  obtain ⟨hpc, hn, hwc, hw4, hin, h1, h4, h7, _⟩ := hI
  unfold wpX_need
  refine up_isPk hpc hn (br_t rfl (hz _)) (fun p hp ep => br_f (by decide) ?_)
  refine up_isPt (br_t rfl (hz _)) (br_f (by decide) ?_)
  subst ep
  obtain ⟨c, hc, ec⟩ := h4 p (by omega)
  have e4 : a4 (nI p).toNatClampNeg = nI c := by rw [nI_clamp (by omega), ec]
  refine ⟨pk_in p 10 (by omega), pk_lt c 2 (fun hc2 => ⟨pk_in p 10 (by omega), nm_r (show 2 * nI p + a4 (nI p).toNatClampNeg = nI (2 * p + c) by rw [e4, up_ix]) ⟨pk_in (2 * p + c) 20 (by omega), nm_e (up_patOf (fun r => ⟨pk_in (2 * (2 * p + c)) 40 (by omega) (hx := up_i2 _), nm_e ⟨pk_in p 10 (by omega), pk_in p 10 (by omega), nm_r (up_cinc (by omega) hc2 ec) ⟨pk_in p 10 (by omega), ?_⟩⟩⟩))⟩⟩) (fun _ => hz _) (hx := e4)⟩
  exact H _ 0 _ _ _ ⟨hpc, hn, hwc, hw4, hin, h1, up_cnt hc2 h4, h7, fun z => absurd rfl z⟩

theorem up_orNeed {post : Int32 → St1 → Prop} {pc ins wc rd wn un ch rf ct fd bs bc : Int32} {a1 a2 a3 a4 a5 a6 a7 a8 a9 a10 a11 a12 a13 a14 a15 a16 a17 a18 : Nat → Int32} {n w : Nat} {p0 p1 p2 p3 : Int32} (hI : (up_I n w pc ins wc rd wn un a1 a2 a3 a4 a5 a6 a7 a8 a9 a10 a11 a12 a13)) (H : ∀ r rd a4 a5 a6, (up_I n w pc ins wc rd wn un a1 a2 a3 a4 a5 a6 a7 a8 a9 a10 a11 a12 a13) → post r (pc, ins, wc, rd, wn, un, ch, rf, ct, fd, bs, bc, a1, a2, a3, a4, a5, a6, a7, a8, a9, a10, a11, a12, a13, a14, a15, a16, a17, a18)) : wpX_orNeed post (pc, ins, wc, rd, wn, un, ch, rf, ct, fd, bs, bc, a1, a2, a3, a4, a5, a6, a7, a8, a9, a10, a11, a12, a13, a14, a15, a16, a17, a18) p0 p1 p2 p3 := by
  have hz := fun r => H r rd a4 a5 a6 hI
  obtain ⟨hpc, hn, hwc, hw4, hin, h1, h4, h7, _⟩ := hI
  unfold wpX_orNeed
  refine up_isPk hpc hn (br_t rfl (hz _)) (fun p hp ep => br_f (by decide) ?_)
  refine up_isPt (br_t rfl (hz _)) (br_f (by decide) ?_)
  subst ep
  obtain ⟨c, hc, ec⟩ := h4 p (by omega)
  have e4 : a4 (nI p).toNatClampNeg = nI c := by rw [nI_clamp (by omega), ec]
  refine ⟨pk_in p 10 (by omega), pk_eq c 0 (fun _ => hz _) (fun hc0 => ?_) (hx := e4)⟩
  obtain ⟨d, rfl⟩ : ∃ d, c = d + 1 := ⟨c - 1, by omega⟩
  refine ⟨pk_in p 10 (by omega), nm_r (show 2 * nI p + a4 (nI p).toNatClampNeg - 1 = nI (2 * p + d) by rw [e4, up_ix]; exact nI_pred (2 * p + d)) ⟨pk_in (2 * p + d) 20 (by omega), br_c (fun _ => hz _) (fun _ => ⟨pk_in (2 * p + d) 20 (by omega), nm_e (up_patOf (fun r => ⟨pk_in (2 * (2 * p + d) + 1) 40 (by omega) (hx := by rw [up_i2, nI_1]), nm_e ?_⟩))⟩)⟩⟩
  exact H _ 0 _ _ _ ⟨hpc, hn, hwc, hw4, hin, h1, h4, h7, fun z => absurd rfl z⟩

theorem up_clash {post : Int32 → St1 → Prop} {pc ins wc rd wn un ch rf ct fd bs bc : Int32} {a1 a2 a3 a4 a5 a6 a7 a8 a9 a10 a11 a12 a13 a14 a15 a16 a17 a18 : Nat → Int32} {n w : Nat} {p0 p1 p2 p3 : Int32} (hI : (up_I n w pc ins wc rd wn un a1 a2 a3 a4 a5 a6 a7 a8 a9 a10 a11 a12 a13)) (H : ∀ r rd a7 a8, (up_I n w pc ins wc rd wn un a1 a2 a3 a4 a5 a6 a7 a8 a9 a10 a11 a12 a13) → post r (pc, ins, wc, rd, wn, un, ch, rf, ct, fd, bs, bc, a1, a2, a3, a4, a5, a6, a7, a8, a9, a10, a11, a12, a13, a14, a15, a16, a17, a18)) : wpX_clash post (pc, ins, wc, rd, wn, un, ch, rf, ct, fd, bs, bc, a1, a2, a3, a4, a5, a6, a7, a8, a9, a10, a11, a12, a13, a14, a15, a16, a17, a18) p0 p1 p2 p3 := by
  have hz := fun r => H r rd a7 a8 hI
  obtain ⟨hpc, hn, hwc, hw4, hin, h1, h4, h7, _⟩ := hI
  unfold wpX_clash
  refine up_isPk hpc hn (br_t rfl (hz _)) (fun p hp ep => br_f (by decide) ?_)
  refine up_isPt (br_t rfl (hz _)) (br_f (by decide) ?_)
  subst ep
  obtain ⟨c, hc, ec⟩ := h7 p (by omega)
  have e7 : a7 (nI p).toNatClampNeg = nI c := by rw [nI_clamp (by omega), ec]
  refine ⟨pk_in p 10 (by omega), pk_lt c 2 (fun hc2 => ⟨pk_in p 10 (by omega), up_patOf (fun r => ⟨pk_in (2 * p + c) 20 (by omega) (hx := by rw [e7, up_ix]), nm_e ⟨pk_in p 10 (by omega), pk_in p 10 (by omega), nm_r (up_cinc (by omega) hc2 ec) ⟨pk_in p 10 (by omega), ?_⟩⟩⟩)⟩) (fun _ => hz _) (hx := e7)⟩
  exact H _ 0 _ _ ⟨hpc, hn, hwc, hw4, hin, h1, h4, up_cnt hc2 h7, fun z => absurd rfl z⟩

theorem up_install {post : Int32 → St1 → Prop} {pc ins wc rd wn un ch rf ct fd bs bc : Int32} {a1 a2 a3 a4 a5 a6 a7 a8 a9 a10 a11 a12 a13 a14 a15 a16 a17 a18 : Nat → Int32} {n w : Nat} {x : Int32} (hI : (up_I n w pc ins wc rd wn un a1 a2 a3 a4 a5 a6 a7 a8 a9 a10 a11 a12 a13)) (H0 : ¬ up_in n x → post 0 (pc, ins, wc, rd, wn, un, ch, rf, ct, fd, bs, bc, a1, a2, a3, a4, a5, a6, a7, a8, a9, a10, a11, a12, a13, a14, a15, a16, a17, a18)) (H1 : up_in n x → (up_I n w pc x wc rd wn un a1 a2 a3 a4 a5 a6 a7 a8 a9 a10 a11 a12 a13) → post 1 (pc, x, wc, rd, wn, un, ch, rf, ct, fd, bs, bc, a1, a2, a3, a4, a5, a6, a7, a8, a9, a10, a11, a12, a13, a14, a15, a16, a17, a18)) : wpX_install post (pc, ins, wc, rd, wn, un, ch, rf, ct, fd, bs, bc, a1, a2, a3, a4, a5, a6, a7, a8, a9, a10, a11, a12, a13, a14, a15, a16, a17, a18) x := by
  obtain ⟨hpc, hn, hwc, hw4, hin, h1, h4, h7, hs⟩ := hI
  unfold wpX_install
  exact up_isSet hpc hn (fun g => br_f (by decide) (H1 g ⟨hpc, hn, hwc, hw4, g, h1, h4, h7, hs⟩)) (fun g => br_t rfl (H0 g))

theorem up_drop {post : Int32 → St1 → Prop} {pc ins wc rd wn un ch rf ct fd bs bc : Int32} {a1 a2 a3 a4 a5 a6 a7 a8 a9 a10 a11 a12 a13 a14 a15 a16 a17 a18 : Nat → Int32} {n w : Nat} (hI : (up_I n w pc ins wc rd wn un a1 a2 a3 a4 a5 a6 a7 a8 a9 a10 a11 a12 a13)) (H : (up_I n 0 pc ins 0 0 wn un a1 a2 a3 a4 a5 a6 a7 a8 a9 a10 a11 a12 a13) → post wc (pc, ins, 0, 0, wn, un, ch, rf, ct, fd, bs, bc, a1, a2, a3, a4, a5, a6, a7, a8, a9, a10, a11, a12, a13, a14, a15, a16, a17, a18)) : wpX_dropWishes post (pc, ins, wc, rd, wn, un, ch, rf, ct, fd, bs, bc, a1, a2, a3, a4, a5, a6, a7, a8, a9, a10, a11, a12, a13, a14, a15, a16, a17, a18) := by
  obtain ⟨hpc, hn, hwc, hw4, hin, h1, h4, h7, hs⟩ := hI
  unfold wpX_dropWishes
  exact H ⟨hpc, hn, rfl, by omega, hin, h1, h4, h7, fun z => absurd rfl z⟩

theorem up_wish {post : Int32 → St1 → Prop} {pc ins wc rd wn un ch rf ct fd bs bc : Int32} {a1 a2 a3 a4 a5 a6 a7 a8 a9 a10 a11 a12 a13 a14 a15 a16 a17 a18 : Nat → Int32} {n w : Nat} {p0 p1 : Int32} (hI : (up_I n w pc ins wc rd wn un a1 a2 a3 a4 a5 a6 a7 a8 a9 a10 a11 a12 a13)) (H : ∀ r w wc rd a9 a10, (up_I n w pc ins wc rd wn un a1 a2 a3 a4 a5 a6 a7 a8 a9 a10 a11 a12 a13) → post r (pc, ins, wc, rd, wn, un, ch, rf, ct, fd, bs, bc, a1, a2, a3, a4, a5, a6, a7, a8, a9, a10, a11, a12, a13, a14, a15, a16, a17, a18)) : wpX_wish post (pc, ins, wc, rd, wn, un, ch, rf, ct, fd, bs, bc, a1, a2, a3, a4, a5, a6, a7, a8, a9, a10, a11, a12, a13, a14, a15, a16, a17, a18) p0 p1 := by
  have hz := fun r => H r w wc rd a9 a10 hI
  obtain ⟨hpc, hn, hwc, hw4, hin, h1, h4, h7, _⟩ := hI
  unfold wpX_wish
  refine br_c (fun _ => hz _) (fun _ => br_c (fun _ => pk_lt w 4 (fun hlt => ⟨pk_in w 4 hlt (hx := hwc), nm_e ⟨pk_in w 4 hlt (hx := hwc), nm_e (nm_r (show wc + 1 = nI (w + 1) by rw [hwc, nI_1]) ?_)⟩⟩) (fun _ => hz _) (hx := hwc)) (fun _ => hz _))
  exact H _ (w + 1) _ 0 _ _ ⟨hpc, hn, rfl, by omega, hin, h1, h4, h7, fun z => absurd rfl z⟩

theorem up_add {post : Int32 → St1 → Prop} {pc ins wc rd wn un ch rf ct fd bs bc : Int32} {a1 a2 a3 a4 a5 a6 a7 a8 a9 a10 a11 a12 a13 a14 a15 a16 a17 a18 : Nat → Int32} {n w : Nat} {p0 p1 p2 : Int32} (hI : (up_I n w pc ins wc rd wn un a1 a2 a3 a4 a5 a6 a7 a8 a9 a10 a11 a12 a13)) (H : ∀ r n pc rd a1 a2 a3, (up_I n w pc ins wc rd wn un a1 a2 a3 a4 a5 a6 a7 a8 a9 a10 a11 a12 a13) → post r (pc, ins, wc, rd, wn, un, ch, rf, ct, fd, bs, bc, a1, a2, a3, a4, a5, a6, a7, a8, a9, a10, a11, a12, a13, a14, a15, a16, a17, a18)) : wpX_addPackage post (pc, ins, wc, rd, wn, un, ch, rf, ct, fd, bs, bc, a1, a2, a3, a4, a5, a6, a7, a8, a9, a10, a11, a12, a13, a14, a15, a16, a17, a18) p0 p1 p2 := by
  have hz := fun r => H r n pc rd a1 a2 a3 hI
  obtain ⟨hpc, hn, hwc, hw4, hin, h1, h4, h7, _⟩ := hI
  unfold wpX_addPackage
  refine pk_lt n 10 (fun hlt => br_c (fun _ => hz _) (fun z1 => br_c (fun _ => hz _) (fun z2 => br_c (fun _ => hz _) (fun _ => br_c (fun _ => hz _) (fun _ => br_c (fun _ => hz _) (fun _ => br_c (fun _ => ?_) (fun _ => hz _))))))) (fun _ => hz _) (hx := hpc)
  obtain ⟨m, hm, em⟩ := nI_of z1
  have hm5 : m < 5 := by
    rw [em] at z2
    rcases Nat.lt_or_ge 4 m with g | g
    · exact absurd (nI_lt g hm) z2
    · omega
  have ec : pc.toNatClampNeg = n := up_clI (by omega) hpc
  refine pk_loop (σ := Unit) (fun f i _ => wX_addPackage_47 post p0 p1 p2 pc ins wc rd wn un ch rf ct fd bs bc a1 a2 a3 a4 a5 a6 a7 a8 a9 a10 a11 a12 a13 a14 a15 a16 a17 a18 f (nI i)) (fun _ _ => True) n 0 () (by omega) trivial ?_ ?_
  · intro f _ _
    refine pk_le n n (fun _ => ⟨pk_in n 10 hlt (hx := hpc), nm_r (show upd a1 pc.toNatClampNeg p0.toInt8.toInt32 = upd a1 n (nI m) by rw [ec, em, up_i8 m (by omega)]) ⟨pk_in n 10 hlt (hx := hpc), nm_e ⟨pk_in n 10 hlt (hx := hpc), nm_e (nm_r (show pc + 1 = nI (n + 1) by rw [hpc, nI_1]) ?_)⟩⟩⟩) (fun z => absurd z (by omega)) (hx := hpc)
    refine H _ (n + 1) _ 0 _ _ _ ⟨rfl, by omega, hwc, hw4, up_inmono (by omega) hin, fun p hp => ?_, h4, h7, fun z => absurd rfl z⟩
    by_cases g : p = n
    · exact ⟨m, hm5, by rw [g, pk_us]⟩
    · rw [pk_un g]; exact h1 p (by omega)
  · intro f i _ hi _ hw
    exact pk_le n i (fun z => absurd z (by omega)) (fun _ => ⟨pk_in i 10 (by omega), br_c (fun _ => ⟨pk_in i 10 (by omega), br_c (fun _ => hz _) (fun _ => nm_r (nI_1 i) (hw () trivial))⟩) (fun _ => nm_r (nI_1 i) (hw () trivial))⟩) (hx := hpc)

theorem up_d43 {post : St1 → Prop} {pc ins wc rd wn un ch rf ct fd bs bc : Int32} {a1 a2 a3 a4 a5 a6 a7 a8 a9 a10 a11 a12 a13 a14 a15 a16 a17 a18 : Nat → Int32} {n w : Nat} {x1 x2 x3 x4 x5 x6 z0 : Int32} (hI : (up_I n w pc ins wc rd wn un a1 a2 a3 a4 a5 a6 a7 a8 a9 a10 a11 a12 a13))
    (H : ∀ n w pc ins wc rd a1 a2 a3 a4 a5 a6 a7 a8 a9 a10, (up_I n w pc ins wc rd wn un a1 a2 a3 a4 a5 a6 a7 a8 a9 a10 a11 a12 a13) → post (pc, ins, wc, rd, wn, un, ch, rf, ct, fd, bs, bc, a1, a2, a3, a4, a5, a6, a7, a8, a9, a10, a11, a12, a13, a14, a15, a16, a17, a18)) : wL_drive_43 post x1 x2 x3 x4 x5 x6 z0 pc ins wc rd wn un ch rf ct fd bs bc a1 a2 a3 a4 a5 a6 a7 a8 a9 a10 a11 a12 a13 a14 a15 a16 a17 a18 := by
  have hz : post (pc, ins, wc, rd, wn, un, ch, rf, ct, fd, bs, bc, a1, a2, a3, a4, a5, a6, a7, a8, a9, a10, a11, a12, a13, a14, a15, a16, a17, a18) := H n w pc ins wc rd a1 a2 a3 a4 a5 a6 a7 a8 a9 a10 hI
  unfold wL_drive_43
  refine nm_e (br_c (fun _ => ⟨by decide, up_add hI (fun r n pc rd a1 a2 a3 h => H n w pc ins wc rd a1 a2 a3 a4 a5 a6 a7 a8 a9 a10 h)⟩) (fun _ => br_c (fun _ => ⟨by decide, up_add hI (fun r n pc rd a1 a2 a3 h => H n w pc ins wc rd a1 a2 a3 a4 a5 a6 a7 a8 a9 a10 h)⟩) (fun _ =>
    br_c (fun _ => up_need hI (fun r rd a4 a5 a6 h => H n w pc ins wc rd a1 a2 a3 a4 a5 a6 a7 a8 a9 a10 h)) (fun _ =>
    br_c (fun _ => up_orNeed hI (fun r rd a4 a5 a6 h => H n w pc ins wc rd a1 a2 a3 a4 a5 a6 a7 a8 a9 a10 h)) (fun _ =>
    br_c (fun _ => up_clash hI (fun r rd a7 a8 h => H n w pc ins wc rd a1 a2 a3 a4 a5 a6 a7 a8 a9 a10 h)) (fun _ =>
    br_c (fun _ => up_install hI (fun _ => hz) (fun _ h => H n w pc _ wc rd a1 a2 a3 a4 a5 a6 a7 a8 a9 a10 h)) (fun _ =>
    br_c (fun _ => ⟨by decide, br_c (fun _ => ?_) (fun _ => ?_)⟩) (fun _ =>
    br_c (fun _ => br_c (fun _ => up_drop hI (fun h => H n 0 pc ins 0 0 a1 a2 a3 a4 a5 a6 a7 a8 a9 a10 h)) (fun _ => hz)) (fun _ => trivial)))))))))
  · unfold wL_drive_180
    exact up_wish hI (fun r w wc rd a9 a10 h => H n w pc ins wc rd a1 a2 a3 a4 a5 a6 a7 a8 a9 a10 h)
  · unfold wL_drive_180
    exact up_wish hI (fun r w wc rd a9 a10 h => H n w pc ins wc rd a1 a2 a3 a4 a5 a6 a7 a8 a9 a10 h)

theorem up_drive {post : St1 → Prop} {pc ins wc rd wn un ch rf ct fd bs bc : Int32} {a1 a2 a3 a4 a5 a6 a7 a8 a9 a10 a11 a12 a13 a14 a15 a16 a17 a18 : Nat → Int32} {n w : Nat} {p1 p2 p3 p4 : Int32} (hI : (up_I n w pc ins wc rd wn un a1 a2 a3 a4 a5 a6 a7 a8 a9 a10 a11 a12 a13))
    (H : ∀ n w pc ins wc rd a1 a2 a3 a4 a5 a6 a7 a8 a9 a10, (up_I n w pc ins wc rd wn un a1 a2 a3 a4 a5 a6 a7 a8 a9 a10 a11 a12 a13) → post (pc, ins, wc, rd, wn, un, ch, rf, ct, fd, bs, bc, a1, a2, a3, a4, a5, a6, a7, a8, a9, a10, a11, a12, a13, a14, a15, a16, a17, a18)) : wpL_drive post (pc, ins, wc, rd, wn, un, ch, rf, ct, fd, bs, bc, a1, a2, a3, a4, a5, a6, a7, a8, a9, a10, a11, a12, a13, a14, a15, a16, a17, a18) p1 p2 p3 p4 := by
  unfold wpL_drive
  refine ⟨by decide, nm_e (br_c (fun _ => ?_) (fun _ => ?_))⟩
  · unfold wL_drive_23
    exact br_f (by decide) (up_d43 hI H)
  · unfold wL_drive_23
    exact br_t rfl ⟨by decide, up_d43 hI H⟩
end
section
/-! the law -/
theorem up_l71 {post : Int32 → Prop} {L : Nat} {xs : Nat → Int32} {J10 : Int32 → Int32 → Int32 → Int32 → Int32 → Int32 → Int32 → Int32 → Int32 → Int32 → Int32 → Int32 → Int32 → (Nat → Int32) → (Nat → Int32) → (Nat → Int32) → (Nat → Int32) → (Nat → Int32) → (Nat → Int32) → (Nat → Int32) → (Nat → Int32) → (Nat → Int32) → (Nat → Int32) → (Nat → Int32) → (Nat → Int32) → (Nat → Int32) → (Nat → Int32) → (Nat → Int32) → (Nat → Int32) → (Nat → Int32) → (Nat → Int32) → Prop} {pc ins wc rd wn un ch rf ct fd bs bc : Int32} {a1 a2 a3 a4 a5 a6 a7 a8 a9 a10 a11 a12 a13 a14 a15 a16 a17 a18 : Nat → Int32} {n w kc ks i : Nat} {x3 z : Int32} (hI : (up_I n w pc ins wc rd wn un a1 a2 a3 a4 a5 a6 a7 a8 a9 a10 a11 a12 a13)) (hx : x3 = -3 ∨ (up_R n w a1 a2 a3 a4 a5 a6 a7 a8 a9 a10) x3)
    (HJ : ∀ rd wn un a11 a12 a13 a14, (up_I n w pc ins wc rd wn un a1 a2 a3 a4 a5 a6 a7 a8 a9 a10 a11 a12 a13) → J10 (nI (i + 4)) pc ins wc rd wn un ch rf ct fd bs bc a1 a2 a3 a4 a5 a6 a7 a8 a9 a10 a11 a12 a13 a14 a15 a16 a17 a18) : wL_law_71 post L xs J10 (nI i) x3 z z kc ks pc ins wc rd wn un ch rf ct fd bs bc a1 a2 a3 a4 a5 a6 a7 a8 a9 a10 a11 a12 a13 a14 a15 a16 a17 a18 := by
  unfold wL_law_71
  refine br_t rfl ?_
  rcases hx with g | g
  · exact br_t (by rw [g]; decide) (nm_r (nI_add i 4) (HJ rd wn un a11 a12 a13 a14 hI))
  · exact br_f (up_inlt hI.2.1 g.1).1 (up_right hI g (fun rd wn un a11 a12 a13 a14 h => br_f (by decide) (nm_r (nI_add i 4) (HJ rd wn un a11 a12 a13 a14 h))))

theorem up_l59 {post : Int32 → Prop} {L : Nat} {xs : Nat → Int32} {J10 : Int32 → Int32 → Int32 → Int32 → Int32 → Int32 → Int32 → Int32 → Int32 → Int32 → Int32 → Int32 → Int32 → (Nat → Int32) → (Nat → Int32) → (Nat → Int32) → (Nat → Int32) → (Nat → Int32) → (Nat → Int32) → (Nat → Int32) → (Nat → Int32) → (Nat → Int32) → (Nat → Int32) → (Nat → Int32) → (Nat → Int32) → (Nat → Int32) → (Nat → Int32) → (Nat → Int32) → (Nat → Int32) → (Nat → Int32) → (Nat → Int32) → Prop} {pc ins wc rd wn un ch rf ct fd bs bc : Int32} {a1 a2 a3 a4 a5 a6 a7 a8 a9 a10 a11 a12 a13 a14 a15 a16 a17 a18 : Nat → Int32} {n w kc ks i : Nat} {x3 z0 : Int32} (hI : (up_I n w pc ins wc rd wn un a1 a2 a3 a4 a5 a6 a7 a8 a9 a10 a11 a12 a13)) (hx : (z0 = 1 ∧ x3 = -3 ∧ ∀ S, ¬ (up_R n w a1 a2 a3 a4 a5 a6 a7 a8 a9 a10) S) ∨ (z0 = 0 ∧ (up_R n w a1 a2 a3 a4 a5 a6 a7 a8 a9 a10) x3))
    (HJ : ∀ rd wn un ch rf ct fd bs bc a11 a12 a13 a14 a15 a16 a17 a18, (up_I n w pc ins wc rd wn un a1 a2 a3 a4 a5 a6 a7 a8 a9 a10 a11 a12 a13) → J10 (nI (i + 4)) pc ins wc rd wn un ch rf ct fd bs bc a1 a2 a3 a4 a5 a6 a7 a8 a9 a10 a11 a12 a13 a14 a15 a16 a17 a18) : wL_law_59 post L xs J10 (nI i) x3 z0 kc ks pc ins wc rd wn un ch rf ct fd bs bc a1 a2 a3 a4 a5 a6 a7 a8 a9 a10 a11 a12 a13 a14 a15 a16 a17 a18 := by
  unfold wL_law_59
  refine up_rsets hI (fun rd wn un ch rf fd bs bc a11 a12 a13 a14 a15 a16 a17 a18 h hF => ?_)
  rcases hx with ⟨rfl, e3, hno⟩ | ⟨rfl, hR⟩
  · rcases hF with ⟨hfd, _, _⟩ | ⟨_, hRb, _⟩
    · exact br_t hfd (up_l71 h (Or.inl e3) (fun rd wn un a11 a12 a13 a14 h' => HJ rd wn un ch rf 1 fd bs bc a11 a12 a13 a14 a15 a16 a17 a18 h'))
    · exact absurd hRb (hno bs)
  · rcases hF with ⟨_, _, hno⟩ | ⟨hfd, _, _⟩
    · exact absurd hR (hno x3)
    · exact br_f hfd (up_l71 h (Or.inr hR) (fun rd wn un a11 a12 a13 a14 h' => HJ rd wn un ch rf 1 fd bs bc a11 a12 a13 a14 a15 a16 a17 a18 h'))

theorem up_lawc {L i : Nat} (hL : L ≤ 260) (hi : i ≤ 260) : (Int32.ofNat L - 4 < nI i) ↔ L < i + 4 := by
  have h1 : (Int32.ofNat L - 4).toInt = (L : Int) - 4 := pk_sub_toInt (a := L) (b := 4) (by omega) (by omega)
  rw [Int32.lt_iff_toInt_lt, h1, nI_toInt (by omega)]
  omega

theorem up_l10 {post : Int32 → Prop} {L : Nat} {xs : Nat → Int32} {kc ks : Nat} (hL : L ≤ 260) (HP : post 1) :
    ∀ N i n w pc ins wc rd wn un ch rf ct fd bs bc a1 a2 a3 a4 a5 a6 a7 a8 a9 a10 a11 a12 a13 a14 a15 a16 a17 a18, i ≤ L → L < 4 * N + i → (up_I n w pc ins wc rd wn un a1 a2 a3 a4 a5 a6 a7 a8 a9 a10 a11 a12 a13) → wL_law_10 post L xs kc ks N (nI i) pc ins wc rd wn un ch rf ct fd bs bc a1 a2 a3 a4 a5 a6 a7 a8 a9 a10 a11 a12 a13 a14 a15 a16 a17 a18 := by
  intro N
  induction N with
  | zero =>
    intro i n w pc ins wc rd wn un ch rf ct fd bs bc a1 a2 a3 a4 a5 a6 a7 a8 a9 a10 a11 a12 a13 a14 a15 a16 a17 a18 h1 h2
    omega
  | succ N ih =>
    intro i n w pc ins wc rd wn un ch rf ct fd bs bc a1 a2 a3 a4 a5 a6 a7 a8 a9 a10 a11 a12 a13 a14 a15 a16 a17 a18 hi hN hI
    refine br_c (fun z => ?_) (fun z => ?_)
    · refine up_bestw hI (fun rd wn un ch rf fd bs bc a11 a12 a13 a14 a15 a16 a17 a18 hI1 hF => ?_)
      rcases hF with ⟨_, hbs, hno⟩ | ⟨_, hRb, _⟩
      · refine br_f (by rw [hbs]; decide) (br_t hbs ?_)
        exact up_costw (k := 0) hI1 (by omega) (Or.inr hno) (fun r rd wn un ch rf fd bs bc a11 a12 a13 a14 a15 a16 a17 a18 _ _ h3 => br_t (h3 hno) HP)
      · have hb0 : 0 ≤ bs := by
          obtain ⟨x, hx, ex⟩ := up_innI hI1.2.1 (up_rtn _ hRb)
          have := up_p2b hI1.2.1
          rw [ex]
          exact nI_pos' (by omega)
        refine br_t hb0 (up_install hI1 (fun g => absurd hRb.1 g) (fun _ hI2 => br_f (by decide) (up_drop hI2 (fun hI3 => ?_))))
        have hR0 : (up_R n 0 a1 a2 a3 a4 a5 a6 a7 a8 a9 a10) bs := up_R0 hRb
        refine up_costw (k := 0) hI3 (by omega) (Or.inl hR0) (fun r rd wn un ch rf fd bs' bc a11 a12 a13 a14 a15 a16 a17 a18 hI4 h0 _ => br_t (h0 hR0) ?_)
        refine up_costw (k := 1) hI4 (by omega) (Or.inl hR0) (fun r rd wn un ch rf fd bs' bc a11 a12 a13 a14 a15 a16 a17 a18 hI5 h0 _ => br_t (h0 hR0) ?_)
        refine up_bestw hI5 (fun rd wn un ch rf fd bs' bc a11 a12 a13 a14 a15 a16 a17 a18 hI6 hF => ?_)
        rcases hF with ⟨_, _, hno⟩ | ⟨_, _, hb⟩
        · exact absurd hR0 (hno bs)
        · exact br_t (hb hR0).1 HP
    · have hi4 : i + 4 ≤ L := by
        rw [up_lawc hL (by omega)] at z
        omega
      refine ⟨pk_in i L (by omega), pk_in (i + 1) L (by omega) (hx := nI_1 i), pk_in (i + 2) L (by omega) (hx := nI_add i 2), pk_in (i + 3) L (by omega) (hx := nI_add i 3), ?_⟩
      refine up_drive hI (fun n w pc ins wc rd a1 a2 a3 a4 a5 a6 a7 a8 a9 a10 hI1 => ?_)
      refine up_bestw hI1 (fun rd wn un ch rf fd bs bc a11 a12 a13 a14 a15 a16 a17 a18 hI2 hF => ?_)
      have nx : ∀ rd wn un ch rf ct fd bs bc a11 a12 a13 a14 a15 a16 a17 a18, (up_I n w pc ins wc rd wn un a1 a2 a3 a4 a5 a6 a7 a8 a9 a10 a11 a12 a13) → wL_law_10 post L xs kc ks N (nI (i + 4)) pc ins wc rd wn un ch rf ct fd bs bc a1 a2 a3 a4 a5 a6 a7 a8 a9 a10 a11 a12 a13 a14 a15 a16 a17 a18 := fun rd wn un ch rf ct fd bs bc a11 a12 a13 a14 a15 a16 a17 a18 h => ih (i + 4) n w pc ins wc rd wn un ch rf ct fd bs bc a1 a2 a3 a4 a5 a6 a7 a8 a9 a10 a11 a12 a13 a14 a15 a16 a17 a18 hi4 (by omega) h
      rcases hF with ⟨_, hbs, hno⟩ | ⟨_, hRb, _⟩
      · exact br_t hbs (up_l59 hI2 (Or.inl ⟨rfl, hbs, hno⟩) nx)
      · exact br_f (up_m3 hI2.2.1 hRb.1) (up_l59 hI2 (Or.inr ⟨rfl, hRb⟩) nx)
end
section
theorem i_vc (xs : Nat → Int32) (L : Nat) (hL : L ≤ 260) : wpL_law (fun r => r = 1) L xs := by
  unfold wpL_law
  refine ⟨18, 222, by omega, by omega, ?_⟩
  unfold wpX_init
  refine ⟨by omega, by omega, by omega, by omega, by omega, by omega, by omega, by omega, by omega, by omega, by omega, by omega, by omega, by omega, by omega, by omega, by omega, by omega, by omega, by omega, by omega, by omega, by omega, by omega, by omega, by omega, by omega, by omega, by omega, by omega, by omega, by omega, by omega, by omega, by omega, by omega, 100, ?_⟩
  exact up_l10 (post := fun r => r = 1) hL rfl 100 0 0 0 0 0 0 0 0 0 0 0 0 0 0 0 (fun _ => 0) (fun _ => 0) (fun _ => 0) (fun _ => 0) (fun _ => 0) (fun _ => 0) (fun _ => 0) (fun _ => 0) (fun _ => 0) (fun _ => 0) (fun _ => 0) (fun _ => 0) (fun _ => 0) (fun _ => 0) (fun _ => 0) (fun _ => 0) (fun _ => 0) (fun _ => 0) (by omega) (by omega) ⟨rfl, by omega, rfl, by omega, up_in0 0, fun p hp => absurd hp (by omega), fun p _ => ⟨0, by omega, rfl⟩, fun p _ => ⟨0, by omega, rfl⟩, fun z => absurd rfl z⟩
end
