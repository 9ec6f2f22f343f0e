section
/-! ===== bits of an Int32 (the family 'Int32 by its bits' of the kit's laws, turned), and small facts on Int32 ===== -/
def tm_b (x : Int32) (i : Nat) : Bool := x.toBitVec.getLsbD i
theorem tm_ext {x y : Int32} (h : ∀ i, i < 32 → tm_b x i = tm_b y i) : x = y := Int32.toBitVec_inj.mp (BitVec.eq_of_getLsbD_eq (fun i hi => h i hi))
theorem tm_bor (x y : Int32) (i : Nat) : tm_b (x ||| y) i = (tm_b x i || tm_b y i) := by unfold tm_b; rw [Int32.toBitVec_or, BitVec.getLsbD_or]
theorem tm_band (x y : Int32) (i : Nat) : tm_b (x &&& y) i = (tm_b x i && tm_b y i) := by unfold tm_b; rw [Int32.toBitVec_and, BitVec.getLsbD_and]
theorem tm_bxor (x y : Int32) (i : Nat) : tm_b (x ^^^ y) i = (tm_b x i ^^ tm_b y i) := by unfold tm_b; rw [Int32.toBitVec_xor, BitVec.getLsbD_xor]
theorem tm_big {x : Int32} {i : Nat} (h : 32 ≤ i) : tm_b x i = false := BitVec.getLsbD_of_ge _ _ h
theorem tm_bm1 : ∀ i, i < 32 → tm_b (-1) i = true := by decide +kernel
theorem tm_b0 (i : Nat) : tm_b 0 i = false := BitVec.getLsbD_zero
theorem tm_b1 : ∀ i, i < 32 → tm_b 1 i = decide (i = 0) := by decide +kernel
theorem tm_sl : ∀ n, n < 32 → ((nI n &&& 31).toBitVec.smod 32).toNat = n := by decide +kernel
theorem tm_sshr (n : Nat) (hn : n < 32) (x : Int32) {i : Nat} (hi : i < 32) : tm_b (x >>> (nI n &&& 31)) i = if n + i < 32 then tm_b x (n + i) else tm_b x 31 := by
  unfold tm_b
  rw [Int32.toBitVec_shiftRight]
  show (x.toBitVec.sshiftRight ((nI n &&& 31).toBitVec.smod 32).toNat).getLsbD i = _
  rw [tm_sl n hn, BitVec.getLsbD_sshiftRight, BitVec.msb_eq_getLsbD_last]
  simp [hi]
theorem tm_bit (x : Int32) (j : Nat) (hj : j < 32) : ((x >>> (nI j &&& 31)) &&& 1) = if tm_b x j = true then 1 else 0 := by
  apply tm_ext
  intro i hi
  rw [tm_band, tm_sshr j hj x hi, tm_b1 i hi]
  by_cases e : i = 0
  · subst e
    cases hb : tm_b x j
    · simp [hb, tm_b0, hj]
    · simp [hb, tm_b1, hj]
  · cases hb : tm_b x j
    · simp [e, tm_b0]
    · simp [e, tm_b1 i hi]
theorem tm_bit0 (x : Int32) (j : Nat) (hj : j < 32) : ((x >>> (nI j &&& 31)) &&& 1) = 0 ↔ tm_b x j = false := by
  rw [tm_bit x j hj]
  cases tm_b x j
  · exact ⟨fun _ => rfl, fun _ => rfl⟩
  · exact ⟨fun z => absurd z (by decide), fun z => absurd z (by decide)⟩
theorem tm_bit1 (x : Int32) (j : Nat) (hj : j < 32) : ((x >>> (nI j &&& 31)) &&& 1) = 1 ↔ tm_b x j = true := by
  rw [tm_bit x j hj]
  cases tm_b x j
  · exact ⟨fun z => absurd z (by decide), fun z => absurd z (by decide)⟩
  · exact ⟨fun _ => rfl, fun _ => rfl⟩
theorem tm_one : ∀ k, k < 32 → ∀ i, i < 32 → tm_b ((1 : Int32) <<< (nI k &&& 31)) i = decide (i = k) := by decide +kernel
theorem tm_not (x : Int32) {i : Nat} (hi : i < 32) : tm_b (x ^^^ (-1)) i = !tm_b x i := by
  rw [tm_bxor, tm_bm1 i hi]
  cases tm_b x i <;> rfl
/-- no bit at or above 8 -/
def tm_sm (m : Int32) : Prop := ∀ i, 8 ≤ i → tm_b m i = false
theorem tm_sm_nn {m : Int32} (h : tm_sm m) : 0 ≤ m := by
  rw [Int32.le_iff_toInt_le]
  have h1 : m.toBitVec.msb = false := by
    rw [BitVec.msb_eq_getLsbD_last]
    exact h 31 (by omega)
  have h2 := BitVec.msb_eq_toInt (x := m.toBitVec)
  rw [h1] at h2
  have h3 := of_decide_eq_false h2.symm
  show (0 : Int) ≤ m.toBitVec.toInt
  omega
theorem tm_sub0 {a b : Int32} : (a &&& (b ^^^ (-1))) = 0 ↔ ∀ i, i < 32 → tm_b a i = true → tm_b b i = true := by
  constructor
  · intro h i hi ha
    have h1 : tm_b (a &&& (b ^^^ (-1))) i = false := by rw [h]; exact tm_b0 i
    rw [tm_band, tm_not b hi, ha] at h1
    cases hb : tm_b b i
    · rw [hb] at h1
      exact absurd h1 (by decide)
    · rfl
  · intro h
    apply tm_ext
    intro i hi
    rw [tm_band, tm_not b hi, tm_b0]
    cases ha : tm_b a i
    · rfl
    · rw [h i hi ha]
      rfl
theorem tm_sm_sub {a b : Int32} (ha : tm_sm a) (h : ∀ j, j < 8 → tm_b a j = true → tm_b b j = true) : (a &&& (b ^^^ (-1))) = 0 := by
  rw [tm_sub0]
  intro i hi hb
  rcases Nat.lt_or_ge i 8 with z | z
  · exact h i z hb
  · rw [ha i z] at hb
    exact absurd hb (by decide)
theorem tm_setb {m : Int32} {k i : Nat} (hk : k < 32) (hi : i < 32) : tm_b (m ||| ((1 : Int32) <<< (nI k &&& 31))) i = (tm_b m i || decide (i = k)) := by
  rw [tm_bor, tm_one k hk i hi]
theorem tm_clrb {m : Int32} {k i : Nat} (hk : k < 32) (hi : i < 32) : tm_b (m &&& (((1 : Int32) <<< (nI k &&& 31)) ^^^ (-1))) i = (tm_b m i && !decide (i = k)) := by
  rw [tm_band, tm_not _ hi, tm_one k hk i hi]
theorem tm_sm_set {m : Int32} {k : Nat} (h : tm_sm m) (hk : k < 8) : tm_sm (m ||| ((1 : Int32) <<< (nI k &&& 31))) := by
  intro i hi
  rcases Nat.lt_or_ge i 32 with z | z
  · rw [tm_setb (by omega) z, h i hi, decide_eq_false (by omega)]
    rfl
  · exact tm_big z
theorem tm_sm_clr {m : Int32} {k : Nat} (h : tm_sm m) (hk : k < 8) : tm_sm (m &&& (((1 : Int32) <<< (nI k &&& 31)) ^^^ (-1))) := by
  intro i hi
  rcases Nat.lt_or_ge i 32 with z | z
  · rw [tm_clrb (by omega) z, h i hi]
    rfl
  · exact tm_big z
theorem tm_sm_and {m x : Int32} (h : tm_sm m) : tm_sm (m &&& x) := by
  intro i hi
  rw [tm_band, h i hi]
  rfl
theorem tm_sm_and' {m x : Int32} (h : tm_sm m) : tm_sm (x &&& m) := by
  intro i hi
  rw [tm_band, h i hi]
  cases tm_b x i <;> rfl
theorem tm_sm_0 : tm_sm 0 := fun i _ => tm_b0 i
theorem tm_sm_one {k : Nat} (hk : k < 8) : tm_sm ((1 : Int32) <<< (nI k &&& 31)) := by
  intro i hi
  rcases Nat.lt_or_ge i 32 with z | z
  · rw [tm_one k (by omega) i z, decide_eq_false (by omega)]
  · exact tm_big z
/-! Int32 against Int -/
theorem tm_addI {a b : Int32} (h1 : -2147483648 ≤ a.toInt + b.toInt) (h2 : a.toInt + b.toInt < 2147483648) : (a + b).toInt = a.toInt + b.toInt := by
  rw [Int32.toInt_add]
  exact Int.bmod_eq_of_le (by omega) (by omega)
theorem tm_subI {a b : Int32} (h1 : -2147483648 ≤ a.toInt - b.toInt) (h2 : a.toInt - b.toInt < 2147483648) : (a - b).toInt = a.toInt - b.toInt := by
  rw [Int32.toInt_sub]
  exact Int.bmod_eq_of_le (by omega) (by omega)
theorem tm_negI {a : Int32} (h1 : -2147483647 ≤ a.toInt) : (-a).toInt = -a.toInt := by
  have h2 := Int32.toInt_lt a
  rw [Int32.toInt_neg]
  exact Int.bmod_eq_of_le (by omega) (by omega)
theorem tm_narN : ∀ n, n < 128 → (nI n).toInt8.toInt32 = nI n := by decide +kernel
theorem tm_uI {f : Nat → Int32} {k j : Nat} {x : Int32} : (upd f k x j).toInt = if j = k then x.toInt else (f j).toInt := by
  by_cases e : j = k
  · rw [if_pos e, e, pk_us]
  · rw [if_neg e, pk_un e]
theorem tm_tg : ∀ j, j < 8 → ((1 : Int32) <<< ((7 - nI j) &&& 31)) = nI (2 ^ (7 - j)) := by decide +kernel
/-- a job's marked worth -/
def tm_m (w : Nat → Nat) (j : Nat) : Nat := w j * 256 + 2 ^ (7 - j)
theorem tm_mw {a : Nat → Int32} {w : Nat → Nat} {j : Nat} (hj : j < 8) (h : a j = nI (w j)) : (a (nI j).toNatClampNeg) * 256 + ((1 : Int32) <<< ((7 - nI j) &&& 31)) = nI (tm_m w j) := by
  rw [nI_clamp (by omega), h, tm_tg j hj]
  show nI (w j) * nI 256 + _ = _
  rw [pk_mul, nI_add]
  rfl
theorem tm_p2 : ∀ j, j < 8 → 1 ≤ 2 ^ (7 - j) ∧ 2 ^ (7 - j) ≤ 128 := by decide
theorem tm_mb {w : Nat → Nat} {j : Nat} (hj : j < 8) (h : w j ≤ 20) : 1 ≤ tm_m w j ∧ tm_m w j ≤ 5248 := by
  have h1 := tm_p2 j hj
  unfold tm_m
  omega
end
section
/-! ===== sums over sets of jobs, cuts, duality ===== -/
def tm_S (p : Nat → Bool) (f : Nat → Int) : Nat → Int
  | 0 => 0
  | n + 1 => tm_S p f n + (if p n = true then f n else 0)
theorem tm_S_le {p q : Nat → Bool} {f g : Nat → Int} : ∀ {n : Nat}, (∀ j, j < n → (if p j = true then f j else 0) ≤ (if q j = true then g j else 0)) → tm_S p f n ≤ tm_S q g n
  | 0, _ => Int.le_refl 0
  | n + 1, h => Int.add_le_add (tm_S_le (fun j hj => h j (by omega))) (h n (by omega))
theorem tm_S_eq {p q : Nat → Bool} {f g : Nat → Int} : ∀ {n : Nat}, (∀ j, j < n → (if p j = true then f j else 0) = (if q j = true then g j else 0)) → tm_S p f n = tm_S q g n
  | 0, _ => rfl
  | n + 1, h => by
    show tm_S p f n + _ = tm_S q g n + _
    rw [tm_S_eq (fun j hj => h j (by omega)), h n (by omega)]
theorem tm_S_p {p q : Nat → Bool} {f : Nat → Int} {n : Nat} (h : ∀ j, j < n → p j = q j) : tm_S p f n = tm_S q f n :=
  tm_S_eq (fun j hj => by rw [h j hj])
theorem tm_S_add {p : Nat → Bool} {f g : Nat → Int} : ∀ n : Nat, tm_S p (fun j => f j + g j) n = tm_S p f n + tm_S p g n
  | 0 => rfl
  | n + 1 => by
    show tm_S p (fun j => f j + g j) n + (if p n = true then f n + g n else 0) = tm_S p f n + (if p n = true then f n else 0) + (tm_S p g n + (if p n = true then g n else 0))
    rw [tm_S_add n]
    by_cases h : p n = true
    · rw [if_pos h, if_pos h, if_pos h]
      omega
    · rw [if_neg h, if_neg h, if_neg h]
      omega
theorem tm_S_mul {p : Nat → Bool} {c : Nat → Prop} [DecidablePred c] {d : Int} : ∀ n : Nat, tm_S p (fun j => if c j then 1 else 0) n * d = tm_S p (fun j => if c j then d else 0) n
  | 0 => Int.zero_mul d
  | n + 1 => by
    show (tm_S p (fun j => if c j then 1 else 0) n + (if p n = true then (if c n then 1 else 0) else 0)) * d = tm_S p (fun j => if c j then d else 0) n + (if p n = true then (if c n then d else 0) else 0)
    rw [Int.add_mul, tm_S_mul n]
    by_cases h : p n = true
    · rw [if_pos h, if_pos h]
      by_cases z : c n
      · rw [if_pos z, if_pos z, Int.one_mul]
      · rw [if_neg z, if_neg z, Int.zero_mul]
    · rw [if_neg h, if_neg h, Int.zero_mul]
theorem tm_S_nn {p : Nat → Bool} {f : Nat → Int} : ∀ {n : Nat}, (∀ j, j < n → 0 ≤ f j) → 0 ≤ tm_S p f n
  | 0, _ => Int.le_refl 0
  | n + 1, h => by
    have h1 := tm_S_nn (p := p) (f := f) (n := n) (fun j hj => h j (by omega))
    have h2 := h n (by omega)
    show 0 ≤ tm_S p f n + (if p n = true then f n else 0)
    by_cases z : p n = true
    · rw [if_pos z]
      omega
    · rw [if_neg z]
      omega
theorem tm_S_ub {p : Nat → Bool} {f : Nat → Int} {B : Int} (hB : 0 ≤ B) : ∀ {n : Nat}, (∀ j, j < n → f j ≤ B) → tm_S p f n ≤ (n : Int) * B
  | 0, _ => by
    show (0 : Int) ≤ ((0 : Nat) : Int) * B
    rw [Int.natCast_zero, Int.zero_mul]
    exact Int.le_refl 0
  | n + 1, h => by
    have h1 := tm_S_ub (p := p) (f := f) hB (n := n) (fun j hj => h j (by omega))
    have h2 := h n (by omega)
    show tm_S p f n + (if p n = true then f n else 0) ≤ ((n + 1 : Nat) : Int) * B
    rw [Int.natCast_add, Int.add_mul, Int.natCast_one, Int.one_mul]
    by_cases z : p n = true
    · rw [if_pos z]
      omega
    · rw [if_neg z]
      omega
/-- one member more -/
theorem tm_S_ins {p q : Nat → Bool} {f : Nat → Int} {k : Nat} (hk : p k = false) (hq : q k = true) : ∀ {n : Nat}, k < n → (∀ j, j < n → j ≠ k → q j = p j) → tm_S q f n = tm_S p f n + f k
  | 0, h, _ => absurd h (by omega)
  | n + 1, h, ho => by
    show tm_S q f n + (if q n = true then f n else 0) = tm_S p f n + (if p n = true then f n else 0) + f k
    by_cases e : n = k
    · subst e
      rw [tm_S_p (p := q) (q := p) (fun j hj => ho j (by omega) (by omega)), if_pos hq, if_neg (by rw [hk]; decide)]
      omega
    · rw [tm_S_ins hk hq (by omega) (fun j hj => ho j (by omega)), ho n (by omega) e]
      omega
/-- the sum over the cuts -/
def tm_T (f : Nat → Int) : Nat → Int
  | 0 => 0
  | n + 1 => tm_T f n + f n
theorem tm_T_add {f g : Nat → Int} : ∀ n : Nat, tm_T (fun i => f i + g i) n = tm_T f n + tm_T g n
  | 0 => rfl
  | n + 1 => by
    show tm_T (fun i => f i + g i) n + (f n + g n) = tm_T f n + f n + (tm_T g n + g n)
    rw [tm_T_add n]
    omega
theorem tm_T_le {f g : Nat → Int} : ∀ {n : Nat}, (∀ i, i < n → f i ≤ g i) → tm_T f n ≤ tm_T g n
  | 0, _ => Int.le_refl 0
  | n + 1, h => Int.add_le_add (tm_T_le (fun j hj => h j (by omega))) (h n (by omega))
theorem tm_T_eq {f g : Nat → Int} : ∀ {n : Nat}, (∀ i, i < n → f i = g i) → tm_T f n = tm_T g n
  | 0, _ => rfl
  | n + 1, h => by
    show tm_T f n + f n = tm_T g n + g n
    rw [tm_T_eq (fun j hj => h j (by omega)), h n (by omega)]
theorem tm_T_0 : ∀ n : Nat, tm_T (fun _ => 0) n = 0
  | 0 => rfl
  | n + 1 => by
    show tm_T (fun _ => 0) n + 0 = 0
    rw [tm_T_0 n]
    rfl
theorem tm_tele (d : Nat → Int) {s e : Nat} (h : s ≤ e) : ∀ n : Nat, tm_T (fun i => if s ≤ i ∧ i < e then d (i + 1) - d i else 0) n = if n ≤ s then 0 else if n ≤ e then d n - d s else d e - d s
  | 0 => by
    rw [if_pos (Nat.zero_le s)]
    rfl
  | n + 1 => by
    show tm_T (fun i => if s ≤ i ∧ i < e then d (i + 1) - d i else 0) n + (if s ≤ n ∧ n < e then d (n + 1) - d n else 0) = _
    rw [tm_tele d h n]
    by_cases h1 : n + 1 ≤ s
    · rw [if_pos (by omega), if_neg (by omega), if_pos h1]
      rfl
    · by_cases h2 : n + 1 ≤ e
      · by_cases h3 : n ≤ s
        · have e1 : n = s := by omega
          rw [if_pos h3, if_pos (by omega), if_neg h1, if_pos h2, e1]
          omega
        · rw [if_neg h3, if_pos (by omega), if_pos (by omega), if_neg h1, if_pos h2]
          omega
      · rw [if_neg (show ¬ (s ≤ n ∧ n < e) by omega), if_neg h1, if_neg h2]
        by_cases h3 : n ≤ s
        · have e1 : n = s := by omega
          have e2 : e = s := by omega
          rw [if_pos h3, e2]
          omega
        · rw [if_neg h3]
          by_cases h4 : n ≤ e
          · have e1 : n = e := by omega
            rw [if_pos h4, e1]
            omega
          · rw [if_neg h4]
            omega
/-- how many jobs of p run at i -/
def tm_C (s e : Nat → Nat) (p : Nat → Bool) (i : Nat) : Int := tm_S p (fun j => if s j ≤ i ∧ i < e j then 1 else 0) 8
theorem tm_swap {s e : Nat → Nat} {p : Nat → Bool} (d : Nat → Int) : ∀ {n : Nat}, (∀ j, j < n → p j = true → s j ≤ e j ∧ e j ≤ 16) →
    tm_S p (fun j => d (e j) - d (s j)) n = tm_T (fun i => tm_S p (fun j => if s j ≤ i ∧ i < e j then d (i + 1) - d i else 0) n) 16
  | 0, _ => (tm_T_0 16).symm
  | n + 1, h => by
    show tm_S p (fun j => d (e j) - d (s j)) n + (if p n = true then d (e n) - d (s n) else 0) = tm_T (fun i => tm_S p (fun j => if s j ≤ i ∧ i < e j then d (i + 1) - d i else 0) n + (if p n = true then (if s n ≤ i ∧ i < e n then d (i + 1) - d i else 0) else 0)) 16
    rw [tm_T_add, tm_swap d (fun j hj => h j (by omega))]
    by_cases z : p n = true
    · have hn := h n (by omega) z
      have e1 : tm_T (fun i => if p n = true then (if s n ≤ i ∧ i < e n then d (i + 1) - d i else 0) else 0) 16 = tm_T (fun i => if s n ≤ i ∧ i < e n then d (i + 1) - d i else 0) 16 :=
        tm_T_eq (fun i _ => by rw [if_pos z])
      rw [e1, tm_tele d hn.1 16, if_pos z]
      by_cases h1 : 16 ≤ s n
      · have a1 : s n = 16 := by omega
        have a2 : e n = 16 := by omega
        rw [if_pos h1, a1, a2]
        omega
      · rw [if_neg h1]
        by_cases h2 : 16 ≤ e n
        · have a2 : e n = 16 := by omega
          rw [if_pos h2, a2]
        · rw [if_neg h2]
    · have e1 : tm_T (fun i => if p n = true then (if s n ≤ i ∧ i < e n then d (i + 1) - d i else 0) else 0) 16 = tm_T (fun _ => 0) 16 :=
        tm_T_eq (fun i _ => by rw [if_neg z])
      rw [e1, tm_T_0, if_neg z]
theorem tm_cut {s e : Nat → Nat} {p : Nat → Bool} (d : Nat → Int) (h : ∀ j, j < 8 → p j = true → s j ≤ e j ∧ e j ≤ 16) :
    tm_S p (fun j => d (e j) - d (s j)) 8 = tm_T (fun i => tm_C s e p i * (d (i + 1) - d i)) 16 := by
  rw [tm_swap d h]
  exact tm_T_eq (fun i _ => (tm_S_mul (c := fun j => s j ≤ i ∧ i < e j) 8).symm)
/-- the arcs that a flow leaves: code, from, to, gain -/
def tm_A (s e : Nat → Nat) (g : Nat → Int) (us U : Nat → Bool) (w : Nat → Nat) (c u v : Nat) (y : Int) : Prop :=
  (c = 16 ∧ v = u + 1 ∧ u < 16 ∧ y = 0) ∨ (c = 17 ∧ u = v + 1 ∧ v < 16 ∧ 0 < w v ∧ y = 0) ∨ (c < 8 ∧ u = s c ∧ v = e c ∧ y = g c ∧ us c = true ∧ U c = false) ∨ (∃ j, j < 8 ∧ c = 8 + j ∧ u = e j ∧ v = s j ∧ y = - g j ∧ U j = true)
theorem tm_dual {s e : Nat → Nat} {g : Nat → Int} {us U V : Nat → Bool} {w : Nat → Nat} {d : Nat → Int} {n : Nat}
    (hse : ∀ j, j < 8 → us j = true → s j ≤ e j ∧ e j ≤ 16) (hU : ∀ j, j < 8 → U j = true → us j = true)
    (hf : ∀ i, i < 16 → tm_C s e U i + w i = n) (hp : ∀ c u v y, tm_A s e g us U w c u v y → d u + y ≤ d v)
    (hV : ∀ j, j < 8 → V j = true → us j = true) (hc : ∀ i, i < 16 → tm_C s e V i ≤ n) : tm_S V g 8 ≤ tm_S U g 8 := by
  have split : ∀ p : Nat → Bool, tm_S p g 8 = tm_S p (fun j => g j - (d (e j) - d (s j))) 8 + tm_S p (fun j => d (e j) - d (s j)) 8 := by
    intro p
    rw [← tm_S_add]
    refine tm_S_eq (fun j _ => ?_)
    by_cases z : p j = true
    · rw [if_pos z, if_pos z]
      omega
    · rw [if_neg z, if_neg z]
  have step : ∀ i, i < 16 → 0 ≤ d (i + 1) - d i := by
    intro i hi
    have h1 := hp 16 i (i + 1) 0 (Or.inl ⟨rfl, rfl, hi, rfl⟩)
    omega
  have red : tm_S V (fun j => g j - (d (e j) - d (s j))) 8 ≤ tm_S U (fun j => g j - (d (e j) - d (s j))) 8 := by
    refine tm_S_le (fun j hj => ?_)
    cases hu : U j
    · rw [if_neg (show ¬ false = true by decide)]
      by_cases z : V j = true
      · rw [if_pos z]
        have h1 := hp j (s j) (e j) (g j) (Or.inr (Or.inr (Or.inl ⟨hj, rfl, rfl, rfl, hV j hj z, hu⟩)))
        omega
      · rw [if_neg z]
        exact Int.le_refl 0
    · rw [if_pos rfl]
      have h1 := hp (8 + j) (e j) (s j) (- g j) (Or.inr (Or.inr (Or.inr ⟨j, hj, rfl, rfl, rfl, rfl, hu⟩)))
      by_cases z : V j = true
      · rw [if_pos z]
        exact Int.le_refl _
      · rw [if_neg z]
        omega
  rw [split V, split U, tm_cut d (fun j hj h => hse j hj (hV j hj h)), tm_cut d (fun j hj h => hse j hj (hU j hj h))]
  refine Int.add_le_add red (tm_T_le (fun i hi => ?_))
  have h0 := step i hi
  have h1 := hf i hi
  have h2 := hc i hi
  by_cases z : w i = 0
  · have e1 : tm_C s e U i = n := by omega
    rw [e1]
    exact Int.mul_le_mul_of_nonneg_right h2 h0
  · have h3 := hp 17 (i + 1) i 0 (Or.inr (Or.inl ⟨rfl, rfl, hi, by omega, rfl⟩))
    have e1 : d (i + 1) - d i = 0 := by omega
    rw [e1, Int.mul_zero, Int.mul_zero]
    exact Int.le_refl 0
/-! the marked sum, the rule between equals, the prescribed jobs -/
def tm_M (w : Nat → Nat) (p : Nat → Bool) : Int := tm_S p (fun j => (tm_m w j : Int)) 8
theorem tm_bin {b0 b1 b2 b3 b4 b5 b6 b7 c0 c1 c2 c3 c4 c5 c6 c7 : Int} (hb0 : 0 ≤ b0 ∧ b0 ≤ 1) (hb1 : 0 ≤ b1 ∧ b1 ≤ 1) (hb2 : 0 ≤ b2 ∧ b2 ≤ 1) (hb3 : 0 ≤ b3 ∧ b3 ≤ 1) (hb4 : 0 ≤ b4 ∧ b4 ≤ 1) (hb5 : 0 ≤ b5 ∧ b5 ≤ 1) (hb6 : 0 ≤ b6 ∧ b6 ≤ 1) (hb7 : 0 ≤ b7 ∧ b7 ≤ 1)
    (hc0 : 0 ≤ c0 ∧ c0 ≤ 1) (hc1 : 0 ≤ c1 ∧ c1 ≤ 1) (hc2 : 0 ≤ c2 ∧ c2 ≤ 1) (hc3 : 0 ≤ c3 ∧ c3 ≤ 1) (hc4 : 0 ≤ c4 ∧ c4 ≤ 1) (hc5 : 0 ≤ c5 ∧ c5 ≤ 1) (hc6 : 0 ≤ c6 ∧ c6 ≤ 1) (hc7 : 0 ≤ c7 ∧ c7 ≤ 1)
    (h : 128 * b0 + 64 * b1 + 32 * b2 + 16 * b3 + 8 * b4 + 4 * b5 + 2 * b6 + b7 = 128 * c0 + 64 * c1 + 32 * c2 + 16 * c3 + 8 * c4 + 4 * c5 + 2 * c6 + c7) :
    b0 = c0 ∧ b1 = c1 ∧ b2 = c2 ∧ b3 = c3 ∧ b4 = c4 ∧ b5 = c5 ∧ b6 = c6 ∧ b7 = c7 := by
  have e0 : b0 = c0 := by omega
  have e1 : b1 = c1 := by omega
  have e2 : b2 = c2 := by omega
  have e3 : b3 = c3 := by omega
  have e4 : b4 = c4 := by omega
  have e5 : b5 = c5 := by omega
  have e6 : b6 = c6 := by omega
  have e7 : b7 = c7 := by omega
  exact ⟨e0, e1, e2, e3, e4, e5, e6, e7⟩
/-- a Bool as a number -/
def tm_01 (x : Bool) : Int := if x = true then 1 else 0
theorem tm_01b (x : Bool) : 0 ≤ tm_01 x ∧ tm_01 x ≤ 1 := by cases x <;> decide
theorem tm_01i {x y : Bool} (h : tm_01 x = tm_01 y) : x = y := by
  revert h
  cases x <;> cases y <;> decide
theorem tm_01m (x : Bool) (k : Int) : (if x = true then k else 0) = k * tm_01 x := by
  cases x
  · exact (Int.mul_zero k).symm
  · exact (Int.mul_one k).symm
def tm_G (p : Nat → Bool) : Int := tm_S p (fun j => ((2 ^ (7 - j) : Nat) : Int)) 8
def tm_W (w : Nat → Nat) (p : Nat → Bool) : Int := tm_S p (fun j => (w j : Int)) 8
theorem tm_G_eq (p : Nat → Bool) : tm_G p = 128 * tm_01 (p 0) + 64 * tm_01 (p 1) + 32 * tm_01 (p 2) + 16 * tm_01 (p 3) + 8 * tm_01 (p 4) + 4 * tm_01 (p 5) + 2 * tm_01 (p 6) + tm_01 (p 7) := by
  show 0 + (if p 0 = true then 128 else 0) + (if p 1 = true then 64 else 0) + (if p 2 = true then 32 else 0) + (if p 3 = true then 16 else 0) + (if p 4 = true then 8 else 0) + (if p 5 = true then 4 else 0) + (if p 6 = true then 2 else 0) + (if p 7 = true then 1 else 0) = _
  rw [tm_01m, tm_01m, tm_01m, tm_01m, tm_01m, tm_01m, tm_01m, tm_01m]
  omega
theorem tm_G_b (p : Nat → Bool) : 0 ≤ tm_G p ∧ tm_G p ≤ 255 := by
  rw [tm_G_eq]
  have h0 := tm_01b (p 0)
  have h1 := tm_01b (p 1)
  have h2 := tm_01b (p 2)
  have h3 := tm_01b (p 3)
  have h4 := tm_01b (p 4)
  have h5 := tm_01b (p 5)
  have h6 := tm_01b (p 6)
  have h7 := tm_01b (p 7)
  omega
theorem tm_G_i {p q : Nat → Bool} (h : tm_G p = tm_G q) : ∀ j, j < 8 → p j = q j := by
  rw [tm_G_eq, tm_G_eq] at h
  obtain ⟨e0, e1, e2, e3, e4, e5, e6, e7⟩ := tm_bin (tm_01b _) (tm_01b _) (tm_01b _) (tm_01b _) (tm_01b _) (tm_01b _) (tm_01b _) (tm_01b _) (tm_01b _) (tm_01b _) (tm_01b _) (tm_01b _) (tm_01b _) (tm_01b _) (tm_01b _) (tm_01b _) h
  intro j hj
  match j, hj with
  | 0, _ => exact tm_01i e0
  | 1, _ => exact tm_01i e1
  | 2, _ => exact tm_01i e2
  | 3, _ => exact tm_01i e3
  | 4, _ => exact tm_01i e4
  | 5, _ => exact tm_01i e5
  | 6, _ => exact tm_01i e6
  | 7, _ => exact tm_01i e7
  | k + 8, h => exact absurd h (by omega)
theorem tm_W_mul {w : Nat → Nat} {p : Nat → Bool} : ∀ n : Nat, tm_S p (fun j => ((w j * 256 : Nat) : Int)) n = 256 * tm_S p (fun j => (w j : Int)) n
  | 0 => rfl
  | n + 1 => by
    show tm_S p (fun j => ((w j * 256 : Nat) : Int)) n + (if p n = true then ((w n * 256 : Nat) : Int) else 0) = 256 * (tm_S p (fun j => (w j : Int)) n + (if p n = true then (w n : Int) else 0))
    rw [tm_W_mul n]
    by_cases z : p n = true
    · rw [if_pos z, if_pos z]
      omega
    · rw [if_neg z, if_neg z]
      omega
theorem tm_M_eq (w : Nat → Nat) (p : Nat → Bool) : tm_M w p = 256 * tm_W w p + tm_G p := by
  unfold tm_M tm_W tm_G
  rw [← tm_W_mul, ← tm_S_add]
  refine tm_S_eq (fun j _ => ?_)
  by_cases z : p j = true
  · rw [if_pos z, if_pos z]
    unfold tm_m
    omega
  · rw [if_neg z, if_neg z]
theorem tm_M_ne {w : Nat → Nat} {p q : Nat → Bool} {j : Nat} (hj : j < 8) (h : p j ≠ q j) : tm_M w p ≠ tm_M w q := by
  intro z
  rw [tm_M_eq, tm_M_eq] at z
  have h1 := tm_G_b p
  have h2 := tm_G_b q
  exact h (tm_G_i (by omega) j hj)
theorem tm_M_b {w : Nat → Nat} (hw : ∀ j, j < 8 → w j ≤ 20) (p : Nat → Bool) : 0 ≤ tm_M w p ∧ tm_M w p ≤ 41984 := by
  refine ⟨tm_S_nn (fun j _ => by omega), ?_⟩
  have h := tm_S_ub (p := p) (f := fun j => (tm_m w j : Int)) (B := 5248) (by omega) (n := 8) (fun j hj => by
    have := tm_mb hj (hw j hj)
    show ((tm_m w j : Nat) : Int) ≤ 5248
    omega)
  unfold tm_M
  omega
/-- the gains with prescribed jobs -/
def tm_gm (w : Nat → Nat) (m : Nat → Bool) (j : Nat) : Int := (tm_m w j : Int) + (if m j = true then 1048576 else 0)
def tm_K (p m : Nat → Bool) (n : Nat) : Int := tm_S p (fun j => if m j = true then 1 else 0) n
theorem tm_gm_S {w : Nat → Nat} {m p : Nat → Bool} : ∀ n : Nat, tm_S p (tm_gm w m) n = tm_S p (fun j => (tm_m w j : Int)) n + 1048576 * tm_K p m n
  | 0 => rfl
  | n + 1 => by
    show tm_S p (tm_gm w m) n + (if p n = true then (tm_m w n : Int) + (if m n = true then 1048576 else 0) else 0) = tm_S p (fun j => (tm_m w j : Int)) n + (if p n = true then (tm_m w n : Int) else 0) + 1048576 * (tm_K p m n + (if p n = true then (if m n = true then 1 else 0) else 0))
    rw [tm_gm_S n]
    by_cases z : p n = true
    · rw [if_pos z, if_pos z, if_pos z]
      by_cases y : m n = true
      · rw [if_pos y, if_pos y]
        omega
      · rw [if_neg y, if_neg y]
        omega
    · rw [if_neg z, if_neg z, if_neg z]
      omega
theorem tm_K_le {p q m : Nat → Bool} : ∀ {n : Nat}, (∀ j, j < n → m j = true → q j = true) → tm_K p m n ≤ tm_K q m n ∧ (tm_K q m n ≤ tm_K p m n → ∀ j, j < n → m j = true → p j = true)
  | 0, _ => ⟨Int.le_refl 0, fun _ j hj => absurd hj (by omega)⟩
  | n + 1, h => by
    obtain ⟨h1, h2⟩ := tm_K_le (p := p) (q := q) (m := m) (n := n) (fun j hj => h j (by omega))
    have e1 : tm_K p m (n + 1) = tm_K p m n + (if p n = true then (if m n = true then 1 else 0) else 0) := rfl
    have e2 : tm_K q m (n + 1) = tm_K q m n + (if q n = true then (if m n = true then 1 else 0) else 0) := rfl
    rw [e1, e2]
    by_cases y : m n = true
    · rw [if_pos y, if_pos (h n (by omega) y)]
      by_cases z : p n = true
      · rw [if_pos z]
        refine ⟨by omega, fun g j hj hm => ?_⟩
        by_cases e : j = n
        · rw [e]
          exact z
        · exact h2 (by omega) j (by omega) hm
      · rw [if_neg z]
        exact ⟨by omega, fun g => absurd g (by omega)⟩
    · rw [if_neg y]
      have e3 : (if p n = true then (0 : Int) else 0) = 0 := by cases p n <;> rfl
      have e4 : (if q n = true then (0 : Int) else 0) = 0 := by cases q n <;> rfl
      rw [e3, e4]
      refine ⟨by omega, fun g j hj hm => ?_⟩
      by_cases e : j = n
      · rw [e] at hm
        exact absurd hm y
      · exact h2 (by omega) j (by omega) hm
theorem tm_must {w : Nat → Nat} {m U V : Nat → Bool} (hw : ∀ j, j < 8 → w j ≤ 20) (h : tm_S V (tm_gm w m) 8 ≤ tm_S U (tm_gm w m) 8) (hV : ∀ j, j < 8 → m j = true → V j = true) :
    (∀ j, j < 8 → m j = true → U j = true) ∧ tm_M w V ≤ tm_M w U := by
  rw [tm_gm_S, tm_gm_S] at h
  have h1 := tm_M_b hw U
  have h2 := tm_M_b hw V
  unfold tm_M at h1 h2 ⊢
  obtain ⟨h3, h4⟩ := tm_K_le (p := U) (q := V) (m := m) (n := 8) hV
  have h5 : tm_K V m 8 ≤ tm_K U m 8 := by omega
  exact ⟨h4 h5, by omega⟩
end
section
/-! ===== counting; the search for the best ways, without the program ===== -/
def tm_N (p : Nat → Bool) : Nat → Nat
  | 0 => 0
  | n + 1 => tm_N p n + (if p n = true then 1 else 0)
theorem tm_N_s (p : Nat → Bool) (n : Nat) : tm_N p (n + 1) = tm_N p n + (if p n = true then 1 else 0) := rfl
theorem tm_N_le (p : Nat → Bool) : ∀ n : Nat, tm_N p n ≤ n
  | 0 => Nat.le_refl 0
  | n + 1 => by
    have h := tm_N_le p n
    rw [tm_N_s]
    by_cases z : p n = true
    · rw [if_pos z]
      omega
    · rw [if_neg z]
      omega
theorem tm_N_all {p : Nat → Bool} : ∀ {n : Nat}, tm_N p n = n → ∀ j, j < n → p j = true
  | 0, _ => fun j hj => absurd hj (by omega)
  | n + 1, h => by
    have h1 := tm_N_le p n
    rw [tm_N_s] at h
    intro j hj
    by_cases z : p n = true
    · rw [if_pos z] at h
      by_cases e : j = n
      · rw [e]
        exact z
      · exact tm_N_all (n := n) (by omega) j (by omega)
    · rw [if_neg z] at h
      omega
theorem tm_N_ex {p : Nat → Bool} : ∀ {n : Nat}, tm_N p n < n → ∃ j, j < n ∧ p j = false
  | 0, h => absurd h (by omega)
  | n + 1, h => by
    rw [tm_N_s] at h
    cases z : p n
    · exact ⟨n, by omega, z⟩
    · rw [if_pos z] at h
      obtain ⟨j, hj, e⟩ := tm_N_ex (p := p) (n := n) (by omega)
      exact ⟨j, by omega, e⟩
theorem tm_N_ext {p q : Nat → Bool} : ∀ {n : Nat}, (∀ j, j < n → p j = q j) → tm_N p n = tm_N q n
  | 0, _ => rfl
  | n + 1, h => by
    rw [tm_N_s, tm_N_s, tm_N_ext (fun j hj => h j (by omega)), h n (by omega)]
theorem tm_N_mono {p q : Nat → Bool} : ∀ {n : Nat}, (∀ j, j < n → p j = true → q j = true) → tm_N p n ≤ tm_N q n
  | 0, _ => Nat.le_refl 0
  | n + 1, h => by
    have h1 := tm_N_mono (p := p) (q := q) (n := n) (fun j hj => h j (by omega))
    rw [tm_N_s, tm_N_s]
    by_cases z : p n = true
    · rw [if_pos z, if_pos (h n (by omega) z)]
      omega
    · rw [if_neg z]
      omega
theorem tm_N_lt {p q : Nat → Bool} {x : Nat} (hp : p x = false) (hq : q x = true) : ∀ {n : Nat}, x < n → (∀ j, j < n → p j = true → q j = true) → tm_N p n < tm_N q n
  | 0, h, _ => absurd h (by omega)
  | n + 1, h, ho => by
    rw [tm_N_s, tm_N_s]
    by_cases e : x = n
    · subst e
      have h1 := tm_N_mono (p := p) (q := q) (n := x) (fun j hj => ho j (by omega))
      rw [if_pos hq, if_neg (by rw [hp]; decide)]
      omega
    · have h1 := tm_N_lt hp hq (n := n) (by omega) (fun j hj => ho j (by omega))
      by_cases z : p n = true
      · rw [if_pos z, if_pos (ho n (by omega) z)]
        omega
      · rw [if_neg z]
        omega
theorem tm_N_ins {p : Nat → Bool} {x : Nat} (hp : p x = false) : ∀ {n : Nat}, x < n → tm_N (fun v => p v || decide (v = x)) n = tm_N p n + 1
  | 0, h => absurd h (by omega)
  | n + 1, h => by
    rw [tm_N_s, tm_N_s]
    by_cases e : x = n
    · subst e
      rw [tm_N_ext (p := fun v => p v || decide (v = x)) (q := p) (n := x) (fun j hj => by
        show (p j || decide (j = x)) = p j
        rw [decide_eq_false (show ¬ j = x by omega), Bool.or_false])]
      rw [if_pos (show (p x || decide (x = x)) = true by rw [decide_eq_true rfl, Bool.or_true]), hp]
      rfl
    · rw [tm_N_ins hp (n := n) (by omega)]
      have e1 : (p n || decide (n = x)) = p n := by rw [decide_eq_false (show ¬ n = x by omega), Bool.or_false]
      rw [show (if (p n || decide (n = x)) = true then 1 else 0) = (if p n = true then 1 else 0) by rw [e1]]
      omega
theorem tm_min {p : Nat → Bool} {f : Nat → Int} : ∀ {n : Nat}, (∃ j, j < n ∧ p j = false) → ∃ x, x < n ∧ p x = false ∧ ∀ j, j < n → p j = false → f x ≤ f j
  | 0, ⟨j, hj, _⟩ => absurd hj (by omega)
  | n + 1, h => by
    by_cases z : ∃ j, j < n ∧ p j = false
    · obtain ⟨x, hx, px, hm⟩ := tm_min (f := f) z
      by_cases y : p n = false ∧ f n < f x
      · refine ⟨n, by omega, y.1, fun j hj pj => ?_⟩
        by_cases e : j = n
        · rw [e]
          exact Int.le_refl _
        · have := hm j (by omega) pj
          omega
      · refine ⟨x, by omega, px, fun j hj pj => ?_⟩
        by_cases e : j = n
        · rw [e] at pj ⊢
          have : ¬ f n < f x := fun g => y ⟨pj, g⟩
          omega
        · exact hm j (by omega) pj
    · obtain ⟨j, hj, pj⟩ := h
      have e : j = n := by
        rcases Nat.lt_or_ge j n with g | g
        · exact absurd ⟨j, g, pj⟩ z
        · omega
      refine ⟨n, by omega, by rw [← e]; exact pj, fun i hi pi => ?_⟩
      by_cases e2 : i = n
      · rw [e2]
        exact Int.le_refl _
      · exact absurd ⟨i, by omega, pi⟩ z
/-- what holds all along the search: below the potential, a parent for each node that is reached, no ring of parents -/
def tm_I (A : Nat → Nat → Nat → Int → Prop) (d : Nat → Int) (a6 a7 : Nat → Int32) : Prop :=
  (∀ v, v < 17 → (a6 v).toInt ≤ d v) ∧ (a6 0).toInt = 0 ∧ (∀ v, v < 17 → (a6 v).toInt = -268435456 ∨ 0 ≤ (a6 v).toInt) ∧
  ∃ h : Nat → Nat, ∀ v, v < 17 → v ≠ 0 → 0 ≤ (a6 v).toInt → ∃ c u y, a7 v = nI c ∧ A c u v y ∧ u < 17 ∧ 0 ≤ (a6 u).toInt ∧ (a6 v).toInt ≤ (a6 u).toInt + y ∧ (d u - (a6 u).toInt < d v - (a6 v).toInt ∨ (d u - (a6 u).toInt = d v - (a6 v).toInt ∧ h u < h v))
/-- the settled nodes P, the next one x, at M; D: what of x is done in this round -/
def tm_J (A : Nat → Nat → Nat → Int → Prop) (d : Nat → Int) (P : Nat → Bool) (x : Nat) (M : Int) (D : Nat → Nat → Prop) (a6 : Nat → Int32) : Prop :=
  (∀ u, u < 17 → P u = true → 0 ≤ (a6 u).toInt ∧ d u - (a6 u).toInt ≤ M ∧ ∀ c v y, A c u v y → (a6 u).toInt + y ≤ (a6 v).toInt) ∧
  (∀ v, v < 17 → P v = false → M ≤ d v - (a6 v).toInt) ∧
  (x < 17 ∧ P x = false ∧ 0 ≤ (a6 x).toInt ∧ d x - (a6 x).toInt = M) ∧
  (∀ c v y, D c v → A c x v y → (a6 x).toInt + y ≤ (a6 v).toInt)
theorem tm_J_no {A : Nat → Nat → Nat → Int → Prop} {d : Nat → Int} {P : Nat → Bool} {x : Nat} {M : Int} {D D' : Nat → Nat → Prop} {a6 : Nat → Int32} {u v : Nat} {y : Int}
    (hJ : tm_J A d P x M D a6) (hn : (a6 u).toInt ≤ -268435456 ∨ (a6 u).toInt + y ≤ (a6 v).toInt)
    (hD : ∀ c' v' y', D' c' v' → A c' x v' y' → D c' v' ∨ (u = x ∧ v' = v ∧ y' = y)) : tm_J A d P x M D' a6 := by
  obtain ⟨j1, j2, j3, j4⟩ := hJ
  refine ⟨j1, j2, j3, fun c' v' y' h1 h2 => ?_⟩
  rcases hD c' v' y' h1 h2 with g | ⟨e1, e2, e3⟩
  · exact j4 c' v' y' g h2
  · have h3 := j3.2.2.1
    rw [e1] at hn
    rw [e2, e3]
    omega
theorem tm_mono {a6 : Nat → Int32} {v : Nat} {x : Int32} (h : (a6 v).toInt ≤ x.toInt) (z : Nat) : (a6 z).toInt ≤ (upd a6 v x z).toInt := by
  rw [tm_uI]
  by_cases e : z = v
  · rw [if_pos e, e]
    exact h
  · rw [if_neg e]
    exact Int.le_refl _
theorem tm_I_yes {A : Nat → Nat → Nat → Int → Prop} {d : Nat → Int} {a6 a7 : Nat → Int32} {c u v : Nat} {y : Int} {x : Int32}
    (hd : ∀ c u v y, A c u v y → d u + y ≤ d v) (h0 : d 0 = 0) (hA : A c u v y) (hu : u < 17)
    (hI : tm_I A d a6 a7) (h1 : 0 ≤ (a6 u).toInt) (h2 : (a6 v).toInt < (a6 u).toInt + y) (hx : x.toInt = (a6 u).toInt + y) (hz : 0 ≤ x.toInt) :
    tm_I A d (upd a6 v x) (upd a7 v (nI c)) := by
  obtain ⟨i1, i2, i3, h, i4⟩ := hI
  have hp := hd c u v y hA
  have hub := i1 u hu
  have huv : u ≠ v := by
    intro e
    rw [e] at hp h2
    omega
  have hv0 : v ≠ 0 := by
    intro e
    rw [e] at hp h2
    rw [h0] at hp
    rw [i2] at h2
    omega
  have hm : ∀ z, (a6 z).toInt ≤ (upd a6 v x z).toInt := tm_mono (by omega)
  refine ⟨fun z hz => ?_, ?_, fun z hz => ?_, fun z => if z = v then h u + 1 else h z, fun z hz hz0 hr => ?_⟩
  · rw [tm_uI]
    by_cases e : z = v
    · rw [if_pos e, e]
      omega
    · rw [if_neg e]
      exact i1 z hz
  · rw [pk_un (fun e => hv0 e.symm)]
    exact i2
  · rw [tm_uI]
    by_cases e : z = v
    · rw [if_pos e]
      omega
    · rw [if_neg e]
      exact i3 z hz
  · by_cases e : z = v
    · refine ⟨c, u, y, by rw [e, pk_us], by rw [e]; exact hA, hu, ?_, ?_, ?_⟩
      · rw [pk_un huv]
        exact h1
      · rw [pk_un huv, e, pk_us]
        omega
      · dsimp only
        rw [pk_un huv, e, pk_us, if_neg huv, if_pos rfl]
        omega
    · rw [pk_un e] at hr
      obtain ⟨c', u', y', b1, b2, b3, b4, b5, b6⟩ := i4 z hz hz0 hr
      have hm' := hm u'
      refine ⟨c', u', y', by rw [pk_un e]; exact b1, b2, b3, by omega, ?_, ?_⟩
      · rw [pk_un e]
        omega
      · dsimp only
        rw [pk_un e, if_neg e]
        by_cases e' : u' = v
        · left
          rw [e', pk_us]
          rw [e'] at b6
          omega
        · rw [pk_un e', if_neg e']
          exact b6
theorem tm_J_yes {A : Nat → Nat → Nat → Int → Prop} {d : Nat → Int} {P : Nat → Bool} {q : Nat} {M : Int} {D D' : Nat → Nat → Prop} {a6 : Nat → Int32} {c u v : Nat} {y : Int} {x : Int32}
    (hd : ∀ c u v y, A c u v y → d u + y ≤ d v) (hA : A c u v y) (hu : u < 17) (hv : v < 17)
    (hJ : tm_J A d P q M D a6) (h2 : (a6 v).toInt < (a6 u).toInt + y) (hx : x.toInt = (a6 u).toInt + y)
    (hD : ∀ c' v' y', D' c' v' → A c' q v' y' → D c' v' ∨ (u = q ∧ v' = v ∧ y' = y)) : tm_J A d P q M D' (upd a6 v x) := by
  obtain ⟨j1, j2, j3, j4⟩ := hJ
  have hp := hd c u v y hA
  have hm : ∀ z, (a6 z).toInt ≤ (upd a6 v x z).toInt := tm_mono (by omega)
  have pu : P u = false := by
    cases z : P u
    · rfl
    · have := (j1 u hu z).2.2 c v y hA
      omega
  have hMu := j2 u hu pu
  have pv : P v = false := by
    cases z : P v
    · rfl
    · have := (j1 v hv z).2.1
      omega
  have hqv : q ≠ v := by
    intro e
    have := j3.2.2.2
    rw [e] at this
    omega
  refine ⟨fun z hz pz => ?_, fun z hz pz => ?_, ?_, fun c' v' y' g1 g2 => ?_⟩
  · have ne : z ≠ v := by
      intro e
      rw [e, pv] at pz
      exact absurd pz (by decide)
    obtain ⟨b1, b2, b3⟩ := j1 z hz pz
    rw [pk_un ne]
    exact ⟨b1, b2, fun c' v' y' g => Int.le_trans (b3 c' v' y' g) (hm v')⟩
  · rw [tm_uI]
    by_cases e : z = v
    · rw [if_pos e, e]
      omega
    · rw [if_neg e]
      exact j2 z hz pz
  · rw [pk_un hqv]
    exact j3
  · rw [pk_un hqv]
    rcases hD c' v' y' g1 g2 with g | ⟨e1, e2, e3⟩
    · exact Int.le_trans (j4 c' v' y' g g2) (hm v')
    · rw [e2, e3, pk_us, ← e1]
      omega
/-- the end of a round: one node more is settled -/
theorem tm_J_next {A : Nat → Nat → Nat → Int → Prop} {d : Nat → Int} {P : Nat → Bool} {x r : Nat} {M : Int} {D : Nat → Nat → Prop} {a6 : Nat → Int32}
    (hJ : tm_J A d P x M D a6) (hr : tm_N P 17 = r) (hD : ∀ c v y, A c x v y → D c v) (hz : ∀ v, v < 17 → 0 ≤ (a6 v).toInt) :
    (r + 1 = 17 → ∀ c u v y, u < 17 → A c u v y → (a6 u).toInt + y ≤ (a6 v).toInt) ∧
    (r + 1 < 17 → ∃ P' x' M', tm_N P' 17 = r + 1 ∧ tm_J A d P' x' M' (fun _ _ => False) a6) := by
  obtain ⟨j1, j2, j3, j4⟩ := hJ
  have hN : tm_N (fun v => P v || decide (v = x)) 17 = r + 1 := by rw [tm_N_ins j3.2.1 j3.1, hr]
  have hin : ∀ u, u < 17 → (P u || decide (u = x)) = true → d u - (a6 u).toInt ≤ M ∧ ∀ c v y, A c u v y → (a6 u).toInt + y ≤ (a6 v).toInt := by
    intro u hu pu
    by_cases e : u = x
    · rw [e]
      exact ⟨by omega, fun c v y g => j4 c v y (hD c v y g) g⟩
    · rw [decide_eq_false e, Bool.or_false] at pu
      exact (j1 u hu pu).2
  constructor
  · intro h c u v y hu g
    rw [h] at hN
    exact (hin u hu (tm_N_all hN u hu)).2 c v y g
  · intro h
    obtain ⟨x', b1, b2, b3⟩ := tm_min (p := fun v => P v || decide (v = x)) (f := fun v => d v - (a6 v).toInt) (n := 17) (tm_N_ex (by omega))
    refine ⟨fun v => P v || decide (v = x), x', d x' - (a6 x').toInt, hN, fun u hu pu => ⟨hz u hu, ?_, (hin u hu pu).2⟩, b3, ⟨b1, b2, hz x' b1, rfl⟩, fun c v y g => absurd g (fun z => z)⟩
    have h1 := (hin u hu pu).1
    have h2 : P x' = false := by
      cases z : P x'
      · rfl
      · rw [z, Bool.true_or] at b2
        exact absurd b2 (by decide)
    have h3 := j2 x' b1 h2
    omega
/-- the rank of a node: how many lie below it -/
theorem tm_rank {A : Nat → Nat → Nat → Int → Prop} {d : Nat → Int} {a6 a7 : Nat → Int32} (hI : tm_I A d a6 a7) (hz : ∀ v, v < 17 → 0 ≤ (a6 v).toInt) :
    ∃ rk : Nat → Nat, (∀ v, rk v ≤ 17) ∧ ∀ v, v < 17 → v ≠ 0 → ∃ c u y, a7 v = nI c ∧ A c u v y ∧ u < 17 ∧ (a6 v).toInt ≤ (a6 u).toInt + y ∧ rk u < rk v := by
  obtain ⟨i1, i2, i3, h, i4⟩ := hI
  refine ⟨fun v => tm_N (fun u => decide (d u - (a6 u).toInt < d v - (a6 v).toInt ∨ (d u - (a6 u).toInt = d v - (a6 v).toInt ∧ h u < h v))) 17, fun v => tm_N_le _ 17, fun v hv hv0 => ?_⟩
  obtain ⟨c, u, y, b1, b2, b3, b4, b5, b6⟩ := i4 v hv hv0 (hz v hv)
  refine ⟨c, u, y, b1, b2, b3, b5, ?_⟩
  refine tm_N_lt (x := u) (decide_eq_false (by omega)) (decide_eq_true b6) b3 (fun j _ hj => ?_)
  have h1 := of_decide_eq_true hj
  exact decide_eq_true (by omega)
end
section
/-! ===== improve, improveByJob, findWays ===== -/
/-- the arrays hold the jobs, the gains and the waiting units -/
def tm_X (s e : Nat → Nat) (g : Nat → Int) (w : Nat → Nat) (a1 a2 a4 a5 : Nat → Int32) : Prop :=
  (∀ j, j < 8 → a1 j = nI (s j) ∧ a2 j = nI (e j) ∧ (a4 j).toInt = g j ∧ s j ≤ 16 ∧ e j ≤ 16 ∧ -67108864 ≤ g j ∧ g j ≤ 67108864) ∧ (∀ i, i < 16 → a5 i = nI (w i) ∧ w i ≤ 100)
theorem tm_J_w {A : Nat → Nat → Nat → Int → Prop} {d : Nat → Int} {P : Nat → Bool} {x : Nat} {M : Int} {D D' : Nat → Nat → Prop} {a6 : Nat → Int32}
    (hJ : tm_J A d P x M D a6) (hD : ∀ c v y, D' c v → A c x v y → D c v) : tm_J A d P x M D' a6 :=
  ⟨hJ.1, hJ.2.1, hJ.2.2.1, fun c v y h1 h2 => hJ.2.2.2 c v y (hD c v y h1 h2) h2⟩
section
variable {post : St1 → Prop} {tc pr us ud kn cs : Int32} {a1 a2 a3 a4 a5 a6 a7 : Nat → Int32} {p0 p1 p2 p3 : Int32} {c u v : Nat} {y : Int}
variable {A : Nat → Nat → Nat → Int → Prop} {d : Nat → Int} {P : Nat → Bool} {q : Nat} {M : Int} {D D' : Nat → Nat → Prop}
variable {s e w : Nat → Nat} {g : Nat → Int}
theorem tm_improve (hu : u < 17) (hv : v < 17) (hc : c < 128) (e0 : p0 = nI u) (e1 : p1 = nI v) (e3 : p3 = nI c) (e2 : p2.toInt = y)
    (hb : -268435456 < (a6 u).toInt → -2147483648 ≤ (a6 u).toInt + y ∧ (a6 u).toInt + y < 2147483648)
    (hn : ((a6 u).toInt ≤ -268435456 ∨ (a6 u).toInt + y ≤ (a6 v).toInt) → post (tc, pr, us, ud, kn, cs, a1, a2, a3, a4, a5, a6, a7))
    (hy : -268435456 < (a6 u).toInt → (a6 v).toInt < (a6 u).toInt + y → ∀ x : Int32, x.toInt = (a6 u).toInt + y → post (tc, pr, us, ud, kn, cs, a1, a2, a3, a4, a5, upd a6 v x, upd a7 v (nI c))) :
    wpX_improve post (tc, pr, us, ud, kn, cs, a1, a2, a3, a4, a5, a6, a7) p0 p1 p2 p3 := by
  subst e0 e1 e3
  unfold wpX_improve
  dsimp only
  rw [nI_clamp (show u < 2 ^ 31 by omega), nI_clamp (show v < 2 ^ 31 by omega), tm_narN c hc]
  have c1 : (a6 u ≤ -268435456) ↔ (a6 u).toInt ≤ -268435456 := Int32.le_iff_toInt_le
  have i0 : vp_in (nI u) 17 := vp_in_nI hu (by omega)
  have i1 : vp_in (nI v) 17 := vp_in_nI hv (by omega)
  refine ⟨i0, br_c (fun z => hn (Or.inl (c1.mp z))) (fun z => ?_)⟩
  have z' : -268435456 < (a6 u).toInt := by
    have : ¬ (a6 u).toInt ≤ -268435456 := fun t => z (c1.mpr t)
    omega
  have hb' := hb z'
  have hs : (a6 u + p2).toInt = (a6 u).toInt + y := by
    rw [← e2] at hb' ⊢
    exact tm_addI hb'.1 hb'.2
  have c2 : (a6 u + p2 ≤ a6 v) ↔ (a6 u).toInt + y ≤ (a6 v).toInt := by rw [Int32.le_iff_toInt_le, hs]
  refine ⟨i0, i1, br_c (fun t => hn (Or.inr (c2.mp t))) (fun t => ⟨i0, i1, nm_e ⟨i1, nm_e (hy z' ?_ _ hs)⟩⟩)⟩
  have : ¬ (a6 u).toInt + y ≤ (a6 v).toInt := fun t' => t (c2.mpr t')
  omega
theorem tm_imp (hd : ∀ c u v y, A c u v y → d u + y ≤ d v) (h0 : d 0 = 0) (hdb : ∀ v, v < 17 → d v ≤ 67108864)
    (hA : A c u v y) (hu : u < 17) (hv : v < 17) (hc : c < 128) (hyb : -67108864 ≤ y ∧ y ≤ 67108864)
    (e0 : p0 = nI u) (e1 : p1 = nI v) (e3 : p3 = nI c) (e2 : p2.toInt = y)
    (hI : tm_I A d a6 a7) (hJ : tm_J A d P q M D a6) (hz : y = 0 ∨ 0 ≤ (a6 v).toInt)
    (hD : ∀ c' v' y', D' c' v' → A c' q v' y' → D c' v' ∨ (u = q ∧ v' = v ∧ y' = y))
    (H : ∀ b6 b7, tm_I A d b6 b7 → tm_J A d P q M D' b6 → (∀ z, (a6 z).toInt ≤ (b6 z).toInt) → (0 ≤ (a6 u).toInt → (a6 u).toInt + y ≤ (b6 v).toInt) → post (tc, pr, us, ud, kn, cs, a1, a2, a3, a4, a5, b6, b7)) :
    wpX_improve post (tc, pr, us, ud, kn, cs, a1, a2, a3, a4, a5, a6, a7) p0 p1 p2 p3 := by
  have hI' := hI
  obtain ⟨i1, i2, i3, _⟩ := hI'
  have hub := i1 u hu
  have hdu := hdb u hu
  have h3 := i3 u hu
  refine tm_improve hu hv hc e0 e1 e3 e2 (fun z => by omega) (fun z => H a6 a7 hI (tm_J_no hJ z hD) (fun _ => Int.le_refl _) (fun t => by omega)) (fun z1 z2 x hx => ?_)
  refine H _ _ (tm_I_yes hd h0 hA hu hI (by omega) z2 hx (by omega)) (tm_J_yes hd hA hu hv hJ z2 hx hD) (tm_mono (by omega)) (fun _ => ?_)
  rw [pk_us]
  omega
/-- the arcs of the first loop that are done before t -/
def tm_D1 (t : Nat) (c v : Nat) : Prop := (c = 16 ∧ v ≤ t) ∨ (c = 17 ∧ v < t)
/-- the arcs of the second loop that are done before j -/
def tm_D2 (j : Nat) (c _v : Nat) : Prop := c = 16 ∨ c = 17 ∨ c < j ∨ (8 ≤ c ∧ c < 8 + j)
theorem tm_A16 {U0 U1 : Nat → Bool} {x v : Nat} {y : Int} (h : tm_A s e g U0 U1 w 16 x v y) : v = x + 1 ∧ y = 0 := by
  rcases h with ⟨_, h1, _, h2⟩ | ⟨h1, _⟩ | ⟨h1, _⟩ | ⟨j, h1, h2, _⟩
  · exact ⟨h1, h2⟩
  · omega
  · omega
  · omega
theorem tm_A17 {U0 U1 : Nat → Bool} {x v : Nat} {y : Int} (h : tm_A s e g U0 U1 w 17 x v y) : x = v + 1 ∧ y = 0 ∧ 0 < w v := by
  rcases h with ⟨h1, _⟩ | ⟨_, h1, _, h2, h3⟩ | ⟨h1, _⟩ | ⟨j, h1, h2, _⟩
  · omega
  · exact ⟨h1, h3, h2⟩
  · omega
  · omega
theorem tm_AF {U0 U1 : Nat → Bool} {j x v : Nat} {y : Int} (hj : j < 8) (h : tm_A s e g U0 U1 w j x v y) : x = s j ∧ v = e j ∧ y = g j ∧ U0 j = true ∧ U1 j = false := by
  rcases h with ⟨h1, _⟩ | ⟨h1, _⟩ | ⟨_, h1, h2, h3, h4, h5⟩ | ⟨i, h1, h2, _⟩
  · omega
  · omega
  · exact ⟨h1, h2, h3, h4, h5⟩
  · omega
theorem tm_AB {U0 U1 : Nat → Bool} {j x v : Nat} {y : Int} (hj : j < 8) (h : tm_A s e g U0 U1 w (8 + j) x v y) : x = e j ∧ v = s j ∧ y = - g j ∧ U1 j = true := by
  rcases h with ⟨h1, _⟩ | ⟨h1, _⟩ | ⟨h1, _⟩ | ⟨i, h0, h1, h2, h3, h4, h5⟩
  · omega
  · omega
  · omega
  · have e1 : i = j := by omega
    subst e1
    exact ⟨h2, h3, h4, h5⟩
theorem tm_Acode {U0 U1 : Nat → Bool} {c x v : Nat} {y : Int} (h : tm_A s e g U0 U1 w c x v y) : c < 18 := by
  rcases h with ⟨h1, _⟩ | ⟨h1, _⟩ | ⟨h1, _⟩ | ⟨i, h0, h1, _⟩ <;> omega
theorem tm_byJob (hX : tm_X s e g w a1 a2 a4 a5) (hd : ∀ c u v y, tm_A s e g (tm_b us) (tm_b ud) w c u v y → d u + y ≤ d v) (h0 : d 0 = 0) (hdb : ∀ v, v < 17 → d v ≤ 67108864)
    {j : Nat} (hj : j < 8) (hI : tm_I (tm_A s e g (tm_b us) (tm_b ud) w) d a6 a7) (hz : ∀ v, v < 17 → 0 ≤ (a6 v).toInt) (hJ : tm_J (tm_A s e g (tm_b us) (tm_b ud) w) d P q M (tm_D2 j) a6)
    (H : ∀ b6 b7, tm_I (tm_A s e g (tm_b us) (tm_b ud) w) d b6 b7 → (∀ v, v < 17 → 0 ≤ (b6 v).toInt) → tm_J (tm_A s e g (tm_b us) (tm_b ud) w) d P q M (tm_D2 (j + 1)) b6 → post (tc, pr, us, ud, kn, cs, a1, a2, a3, a4, a5, b6, b7)) :
    wpX_improveByJob post (tc, pr, us, ud, kn, cs, a1, a2, a3, a4, a5, a6, a7) (nI j) := by
  obtain ⟨x1, x2, x3, x4, x5, x6, x7⟩ := hX.1 j hj
  unfold wpX_improveByJob
  dsimp only
  rw [nI_clamp (show j < 2 ^ 31 by omega)]
  have i0 : vp_in (nI j) 8 := vp_in_nI hj (by omega)
  refine ek_if (tm_bit0 ud j (by omega)) (fun hu => ek_if (tm_bit0 us j (by omega)) (fun hs => ?_) (fun hs => ?_)) (fun hu => ?_)
  · refine H a6 a7 hI hz (tm_J_w hJ (fun c' v' y' h1 h2 => ?_))
    rcases h1 with h1 | h1 | h1 | h1
    · exact Or.inl h1
    · exact Or.inr (Or.inl h1)
    · by_cases ec : c' = j
      · rw [ec] at h2
        have := tm_AF hj h2
        rw [hs] at this
        exact absurd this.2.2.2.1 (by decide)
      · exact Or.inr (Or.inr (Or.inl (by omega)))
    · by_cases ec : c' = 8 + j
      · rw [ec] at h2
        have := tm_AB hj h2
        rw [hu] at this
        exact absurd this.2.2.2 (by decide)
      · exact Or.inr (Or.inr (Or.inr (by omega)))
  · have hs' : tm_b us j = true := by
      cases z : tm_b us j
      · exact absurd z hs
      · rfl
    refine ⟨i0, i0, i0, tm_imp hd h0 hdb (D' := tm_D2 (j + 1)) (Or.inr (Or.inr (Or.inl ⟨hj, rfl, rfl, rfl, hs', hu⟩))) (by omega) (by omega) (show j < 128 by omega) ⟨x6, x7⟩ x1 x2 rfl x3 hI hJ (Or.inr (hz _ (by omega))) (fun c' v' y' h1 h2 => ?_) (fun b6 b7 k1 k2 k3 k4 => H b6 b7 k1 (fun v hv => Int.le_trans (hz v hv) (k3 v)) k2)⟩
    rcases h1 with h1 | h1 | h1 | h1
    · exact Or.inl (Or.inl h1)
    · exact Or.inl (Or.inr (Or.inl h1))
    · by_cases ec : c' = j
      · rw [ec] at h2
        obtain ⟨b1, b2, b3, _⟩ := tm_AF hj h2
        exact Or.inr ⟨b1.symm, b2, b3⟩
      · exact Or.inl (Or.inr (Or.inr (Or.inl (by omega))))
    · by_cases ec : c' = 8 + j
      · rw [ec] at h2
        have := tm_AB hj h2
        rw [hu] at this
        exact absurd this.2.2.2 (by decide)
      · exact Or.inl (Or.inr (Or.inr (Or.inr (by omega))))
  · have hu' : tm_b ud j = true := by
      cases z : tm_b ud j
      · exact absurd z hu
      · rfl
    refine ⟨i0, i0, i0, tm_imp hd h0 hdb (D' := tm_D2 (j + 1)) (Or.inr (Or.inr (Or.inr ⟨j, hj, rfl, rfl, rfl, rfl, hu'⟩))) (by omega) (by omega) (show 8 + j < 128 by omega) ⟨by omega, by omega⟩ x2 x1 (nI_add 8 j) (by rw [tm_negI (by omega), x3]) hI hJ (Or.inr (hz _ (by omega))) (fun c' v' y' h1 h2 => ?_) (fun b6 b7 k1 k2 k3 k4 => H b6 b7 k1 (fun v hv => Int.le_trans (hz v hv) (k3 v)) k2)⟩
    rcases h1 with h1 | h1 | h1 | h1
    · exact Or.inl (Or.inl h1)
    · exact Or.inl (Or.inr (Or.inl h1))
    · by_cases ec : c' = j
      · rw [ec] at h2
        obtain ⟨_, _, _, _, b5⟩ := tm_AF hj h2
        rw [hu'] at b5
        exact absurd b5 (by decide)
      · exact Or.inl (Or.inr (Or.inr (Or.inl (by omega))))
    · by_cases ec : c' = 8 + j
      · rw [ec] at h2
        obtain ⟨b1, b2, b3, _⟩ := tm_AB hj h2
        exact Or.inr ⟨b1.symm, b2, b3⟩
      · exact Or.inl (Or.inr (Or.inr (Or.inr (by omega))))
theorem tm_fw91 {J38 : Int32 → Int32 → Int32 → Int32 → Int32 → Int32 → Int32 → (Nat → Int32) → (Nat → Int32) → (Nat → Int32) → (Nat → Int32) → (Nat → Int32) → (Nat → Int32) → (Nat → Int32) → Prop} {r : Nat}
    (hX : tm_X s e g w a1 a2 a4 a5) (hd : ∀ c u v y, tm_A s e g (tm_b us) (tm_b ud) w c u v y → d u + y ≤ d v) (h0 : d 0 = 0) (hdb : ∀ v, v < 17 → d v ≤ 67108864)
    (hI : tm_I (tm_A s e g (tm_b us) (tm_b ud) w) d a6 a7) (hz : ∀ v, v < 17 → 0 ≤ (a6 v).toInt) (hJ : tm_J (tm_A s e g (tm_b us) (tm_b ud) w) d P q M (tm_D2 0) a6)
    (H : ∀ b6 b7, tm_I (tm_A s e g (tm_b us) (tm_b ud) w) d b6 b7 → (∀ v, v < 17 → 0 ≤ (b6 v).toInt) → tm_J (tm_A s e g (tm_b us) (tm_b ud) w) d P q M (tm_D2 8) b6 → J38 (nI (r + 1)) tc pr us ud kn cs a1 a2 a3 a4 a5 b6 b7) :
    ∃ n, wX_findWays_91 post J38 (nI r) n 0 tc pr us ud kn cs a1 a2 a3 a4 a5 a6 a7 :=
  pk_loop (fun n i (t : (Nat → Int32) × (Nat → Int32)) => wX_findWays_91 post J38 (nI r) n (nI i) tc pr us ud kn cs a1 a2 a3 a4 a5 t.1 t.2)
    (fun i t => tm_I (tm_A s e g (tm_b us) (tm_b ud) w) d t.1 t.2 ∧ (∀ v, v < 17 → 0 ≤ (t.1 v).toInt) ∧ tm_J (tm_A s e g (tm_b us) (tm_b ud) w) d P q M (tm_D2 i) t.1) 8 0 (a6, a7) (by omega) ⟨hI, hz, hJ⟩
    (fun n t h => pk_le 8 8 (fun _ => nm_r (nI_1 r) (H t.1 t.2 h.1 h.2.1 h.2.2)) (fun z => absurd z (by omega)))
    (fun n i t hi h hw => pk_le 8 i (fun z => absurd z (by omega)) (fun _ => tm_byJob hX hd h0 hdb hi h.1 h.2.1 h.2.2 (fun b6 b7 k1 k2 k3 => nm_r (nI_1 i) (hw (b6, b7) ⟨k1, k2, k3⟩))))
theorem tm_fw46 {J38 : Int32 → Int32 → Int32 → Int32 → Int32 → Int32 → Int32 → (Nat → Int32) → (Nat → Int32) → (Nat → Int32) → (Nat → Int32) → (Nat → Int32) → (Nat → Int32) → (Nat → Int32) → Prop} {r : Nat}
    (hX : tm_X s e g w a1 a2 a4 a5) (hd : ∀ c u v y, tm_A s e g (tm_b us) (tm_b ud) w c u v y → d u + y ≤ d v) (h0 : d 0 = 0) (hdb : ∀ v, v < 17 → d v ≤ 67108864)
    (hI : tm_I (tm_A s e g (tm_b us) (tm_b ud) w) d a6 a7) (hJ : tm_J (tm_A s e g (tm_b us) (tm_b ud) w) d P q M (fun _ _ => False) a6)
    (H : ∀ b6 b7, tm_I (tm_A s e g (tm_b us) (tm_b ud) w) d b6 b7 → (∀ v, v < 17 → 0 ≤ (b6 v).toInt) → tm_J (tm_A s e g (tm_b us) (tm_b ud) w) d P q M (tm_D2 0) b6 → ∃ n, wX_findWays_91 post J38 (nI r) n 0 tc pr us ud kn cs a1 a2 a3 a4 a5 b6 b7) :
    ∃ n, wX_findWays_46 post J38 (nI r) n 0 tc pr us ud kn cs a1 a2 a3 a4 a5 a6 a7 := by
  refine pk_loop (fun n i (t : (Nat → Int32) × (Nat → Int32)) => wX_findWays_46 post J38 (nI r) n (nI i) tc pr us ud kn cs a1 a2 a3 a4 a5 t.1 t.2)
    (fun i t => tm_I (tm_A s e g (tm_b us) (tm_b ud) w) d t.1 t.2 ∧ (∀ v, v ≤ i → 0 ≤ (t.1 v).toInt) ∧ tm_J (tm_A s e g (tm_b us) (tm_b ud) w) d P q M (tm_D1 i) t.1) 16 0 (a6, a7) (by omega) ⟨hI, fun v hv => ?_, tm_J_w hJ (fun c v y h1 h2 => ?_)⟩ (fun n t h => ?_) (fun n i t hi h hw => ?_)
  · have e1 : v = 0 := by omega
    rw [e1]
    show 0 ≤ (a6 0).toInt
    rw [hI.2.1]
    exact Int.le_refl 0
  · rcases h1 with ⟨h1, h3⟩ | ⟨h1, h3⟩
    · rw [h1] at h2
      have := tm_A16 h2
      omega
    · omega
  · refine pk_le 16 16 (fun _ => H t.1 t.2 h.1 (fun v hv => h.2.1 v (by omega)) (tm_J_w h.2.2 (fun c v y h1 h2 => ?_))) (fun z => absurd z (by omega))
    rcases h1 with h1 | h1 | h1 | h1
    · rw [h1] at h2
      rcases h2 with ⟨_, h3, h4, _⟩ | ⟨h3, _⟩ | ⟨h3, _⟩ | ⟨j, h3, h4, _⟩
      · exact Or.inl ⟨h1, by omega⟩
      · omega
      · omega
      · omega
    · rw [h1] at h2
      rcases h2 with ⟨h3, _⟩ | ⟨_, _, h3, _⟩ | ⟨h3, _⟩ | ⟨j, h3, h4, _⟩
      · omega
      · exact Or.inr ⟨h1, h3⟩
      · omega
      · omega
    · omega
    · omega
  · obtain ⟨k1, k2, k3⟩ := h
    obtain ⟨w1, w2⟩ := hX.2 i hi
    have i0 : vp_in (nI i) 16 := vp_in_nI hi (by omega)
    refine pk_le 16 i (fun z => absurd z (by omega)) (fun _ => ?_)
    refine tm_imp hd h0 hdb (D' := fun c v => (c = 16 ∧ v ≤ i + 1) ∨ (c = 17 ∧ v < i)) (Or.inl ⟨rfl, rfl, hi, rfl⟩) (by omega) (by omega) (show 16 < 128 by omega) (by omega) rfl (nI_1 i) rfl rfl k1 k3 (Or.inl rfl) (fun c' v' y' h1 h2 => ?_) (fun b6 b7 m1 m2 m3 m4 => ?_)
    · rcases h1 with ⟨h1, h3⟩ | ⟨h1, h3⟩
      · rw [h1] at h2
        obtain ⟨h4, h5⟩ := tm_A16 h2
        by_cases ei : i = q
        · exact Or.inr ⟨ei, by omega, h5⟩
        · exact Or.inl (Or.inl ⟨h1, by omega⟩)
      · exact Or.inl (Or.inr ⟨h1, h3⟩)
    · have r1 : ∀ v, v ≤ i + 1 → 0 ≤ (b6 v).toInt := by
        intro v hv
        by_cases ev : v = i + 1
        · have h1 := m4 (k2 i (Nat.le_refl i))
          have h2 := k2 i (Nat.le_refl i)
          rw [ev]
          omega
        · exact Int.le_trans (k2 v (by omega)) (m3 v)
      refine ⟨i0, pk_le (w i) 0 (fun z => nm_r (nI_1 i) (hw (b6, b7) ⟨m1, r1, tm_J_w m2 (fun c v y h1 h2 => ?_)⟩)) (fun z => ?_) (by rw [nI_clamp (by omega)]; exact w1) rfl (by omega) (by omega)⟩
      · rcases h1 with ⟨h1, h3⟩ | ⟨h1, h3⟩
        · exact Or.inl ⟨h1, h3⟩
        · refine Or.inr ⟨h1, ?_⟩
          by_cases ev : v = i
          · rw [h1, ev] at h2
            have := (tm_A17 h2).2.2
            omega
          · omega
      · refine tm_imp hd h0 hdb (D' := tm_D1 (i + 1)) (Or.inr (Or.inl ⟨rfl, rfl, hi, z, rfl⟩)) (by omega) (by omega) (show 17 < 128 by omega) (by omega) (nI_1 i) rfl rfl rfl m1 m2 (Or.inl rfl) (fun c' v' y' h1 h2 => ?_) (fun c6 c7 n1 n2 n3 n4 => nm_r (nI_1 i) (hw (c6, c7) ⟨n1, fun v hv => Int.le_trans (r1 v hv) (n3 v), n2⟩))
        rcases h1 with ⟨h1, h3⟩ | ⟨h1, h3⟩
        · exact Or.inl (Or.inl ⟨h1, h3⟩)
        · by_cases ev : v' = i
          · rw [h1] at h2
            obtain ⟨h4, h5, _⟩ := tm_A17 h2
            exact Or.inr ⟨by omega, ev, h5⟩
          · exact Or.inl (Or.inr ⟨h1, by omega⟩)
theorem tm_findWays (hX : tm_X s e g w a1 a2 a4 a5) (hd : ∀ c u v y, tm_A s e g (tm_b us) (tm_b ud) w c u v y → d u + y ≤ d v) (h0 : d 0 = 0) (hdb : ∀ v, v < 17 → 0 ≤ d v ∧ d v ≤ 67108864)
    (H : ∀ b6 b7, tm_I (tm_A s e g (tm_b us) (tm_b ud) w) d b6 b7 → (∀ v, v < 17 → 0 ≤ (b6 v).toInt) → (∀ c u v y, u < 17 → tm_A s e g (tm_b us) (tm_b ud) w c u v y → (b6 u).toInt + y ≤ (b6 v).toInt) → post (tc, pr, us, ud, kn, cs, a1, a2, a3, a4, a5, b6, b7)) :
    wpX_findWays post (tc, pr, us, ud, kn, cs, a1, a2, a3, a4, a5, a6, a7) := by
  have hdb' : ∀ v, v < 17 → d v ≤ 67108864 := fun v hv => (hdb v hv).2
  have loop : ∀ b6 b7, tm_I (tm_A s e g (tm_b us) (tm_b ud) w) d b6 b7 → tm_J (tm_A s e g (tm_b us) (tm_b ud) w) d (fun _ => false) 0 0 (fun _ _ => False) b6 → ∃ n, wX_findWays_38 post n 0 tc pr us ud kn cs a1 a2 a3 a4 a5 b6 b7 := by
    intro b6 b7 hI hJ
    refine pk_loop (fun n i (t : (Nat → Int32) × (Nat → Int32)) => wX_findWays_38 post n (nI i) tc pr us ud kn cs a1 a2 a3 a4 a5 t.1 t.2)
      (fun i t => tm_I (tm_A s e g (tm_b us) (tm_b ud) w) d t.1 t.2 ∧ (i < 17 → ∃ P q M, tm_N P 17 = i ∧ tm_J (tm_A s e g (tm_b us) (tm_b ud) w) d P q M (fun _ _ => False) t.1) ∧ (i = 17 → (∀ v, v < 17 → 0 ≤ (t.1 v).toInt) ∧ ∀ c u v y, u < 17 → tm_A s e g (tm_b us) (tm_b ud) w c u v y → (t.1 u).toInt + y ≤ (t.1 v).toInt)) 17 0 (b6, b7) (by omega) ⟨hI, fun _ => ⟨_, _, _, rfl, hJ⟩, fun z => absurd z (by omega)⟩ (fun n t h => ?_) (fun n i t hi h hw => ?_)
    · exact pk_lt 16 17 (fun _ => H t.1 t.2 h.1 (h.2.2 rfl).1 (h.2.2 rfl).2) (fun z => absurd z (by omega))
    · refine pk_lt 16 i (fun z => absurd z (by omega)) (fun _ => ?_)
      obtain ⟨k1, k2, _⟩ := h
      obtain ⟨P, q, M, k3, k4⟩ := k2 hi
      refine tm_fw46 hX hd h0 hdb' k1 k4 (fun c6 c7 m1 m2 m3 => tm_fw91 hX hd h0 hdb' m1 m2 m3 (fun d6 d7 n1 n2 n3 => hw (d6, d7) ⟨n1, ?_, ?_⟩))
      · exact fun z => (tm_J_next n3 k3 (fun c v y h => by have := tm_Acode h; unfold tm_D2; omega) n2).2 z
      · exact fun z => ⟨n2, (tm_J_next n3 k3 (fun c v y h => by have := tm_Acode h; unfold tm_D2; omega) n2).1 z⟩
  unfold wpX_findWays
  refine pk_loop (fun n i (t : (Nat → Int32) × (Nat → Int32)) => wX_findWays_2 post tc pr us ud kn cs n (nI i) a1 a2 a3 a4 a5 t.1 t.2)
    (fun i t => ∀ v, v < i → t.1 v = -268435456 ∧ t.2 v = -1) 17 0 (a6, a7) (by omega) (fun v hv => absurd hv (by omega)) (fun n t h => ?_) (fun n i t hi h hw => ?_)
  · refine pk_lt 16 17 (fun _ => nm_e ?_) (fun z => absurd z (by omega))
    have r0 : (upd t.1 0 0 0).toInt = 0 := by rw [pk_us]; rfl
    have r1 : ∀ v, v < 17 → v ≠ 0 → (upd t.1 0 0 v).toInt = -268435456 := by
      intro v hv hv0
      rw [pk_un hv0, (h v hv).1]
      rfl
    refine loop _ _ ⟨fun v hv => ?_, r0, fun v hv => ?_, fun _ => 0, fun v hv hv0 hr => ?_⟩ ⟨fun u hu z => absurd z (show ¬ false = true by decide), fun v hv _ => ?_, ⟨by omega, rfl, ?_, ?_⟩, fun c v y z => absurd z (fun t => t)⟩
    · have := hdb v hv
      by_cases ev : v = 0
      · rw [ev, r0, h0]
        exact Int.le_refl 0
      · rw [r1 v hv ev]
        omega
    · by_cases ev : v = 0
      · rw [ev, r0]
        exact Or.inr (Int.le_refl 0)
      · exact Or.inl (r1 v hv ev)
    · rw [r1 v hv hv0] at hr
      exact absurd hr (by decide)
    · have := hdb v hv
      by_cases ev : v = 0
      · rw [ev, r0, h0]
        decide
      · rw [r1 v hv ev]
        omega
    · rw [r0]
      exact Int.le_refl 0
    · rw [r0, h0]
      rfl
  · refine pk_lt 16 i (fun z => absurd z (by omega)) (fun _ => ⟨vp_in_nI hi (by omega), nm_e ⟨vp_in_nI hi (by omega), nm_e (nm_r (nI_1 i) (hw (_, _) (fun v hv => ?_)))⟩⟩)
    rw [nI_clamp (show i < 2 ^ 31 by omega)]
    by_cases ev : v = i
    · rw [ev]
      exact ⟨pk_us, pk_us⟩
    · exact ⟨(pk_un ev).trans (h v (by omega)).1, (pk_un ev).trans (h v (by omega)).2⟩
end
end
section
/-! ===== follow, send, prepare ===== -/
/-- on the way back from the last time, at node t -/
def tm_F (s e : Nat → Nat) (g : Nat → Int) (us U : Nat → Bool) (w : Nat → Nat) (a6 a7 : Nat → Int32) (rk : Nat → Nat) (n t : Nat) : Prop :=
  (∀ j, j < 8 → U j = true → us j = true) ∧
  (∀ i, i < 16 → tm_C s e U i + w i = n + (if t ≤ i then 1 else 0)) ∧
  (∀ c u v y, tm_A s e g us U w c u v y → (a6 u).toInt + y ≤ (a6 v).toInt) ∧
  (∀ v, v < 17 → v ≠ 0 → rk v ≤ rk t → ∃ c u y, a7 v = nI c ∧ tm_A s e g us U w c u v y ∧ u < 17 ∧ (a6 v).toInt ≤ (a6 u).toInt + y ∧ rk u < rk v)
/-- one job's part of a cut -/
def tm_c1 (s e : Nat → Nat) (j i : Nat) : Int := if s j ≤ i ∧ i < e j then 1 else 0
theorem tm_C_ins {s e : Nat → Nat} {U U' : Nat → Bool} {j : Nat} (hj : j < 8) (h1 : U j = false) (h2 : ∀ i, i < 8 → U' i = (U i || decide (i = j))) (i : Nat) : tm_C s e U' i = tm_C s e U i + tm_c1 s e j i :=
  tm_S_ins h1 (by rw [h2 j hj, decide_eq_true rfl, Bool.or_true]) hj (fun k hk ne => by rw [h2 k hk, decide_eq_false ne, Bool.or_false])
theorem tm_C_del {s e : Nat → Nat} {U U' : Nat → Bool} {j : Nat} (hj : j < 8) (h1 : U j = true) (h2 : ∀ i, i < 8 → U' i = (U i && !decide (i = j))) (i : Nat) : tm_C s e U i = tm_C s e U' i + tm_c1 s e j i :=
  tm_S_ins (by rw [h2 j hj, decide_eq_true rfl]; cases U j <;> rfl) h1 hj (fun k hk ne => by rw [h2 k hk, decide_eq_false ne]; cases U k <;> rfl)
theorem tm_C_nn {s e : Nat → Nat} {U : Nat → Bool} {i : Nat} : 0 ≤ tm_C s e U i :=
  tm_S_nn (fun j _ => by
    by_cases h : s j ≤ i ∧ i < e j
    · rw [if_pos h]
      decide
    · rw [if_neg h]
      decide)
section
variable {s e w w' : Nat → Nat} {g : Nat → Int} {us U U' : Nat → Bool} {a6 a7 : Nat → Int32} {rk : Nat → Nat} {n t u j : Nat}
theorem tm_F16 (h : tm_F s e g us U w a6 a7 rk n (u + 1)) (hr : (a6 (u + 1)).toInt ≤ (a6 u).toInt) (hk : rk u < rk (u + 1)) :
    tm_F s e g us U (fun i => if i = u then w i + 1 else w i) a6 a7 rk n u := by
  obtain ⟨f1, f2, f3, f4⟩ := h
  refine ⟨f1, fun i hi => ?_, fun c' u' v' y' h => ?_, fun v hv hv0 hvk => ?_⟩
  · have h1 := f2 i hi
    dsimp only
    by_cases ei : i = u
    · rw [if_neg (by omega)] at h1
      rw [if_pos ei, if_pos (by omega)]
      omega
    · rw [if_neg ei, h1]
      by_cases z : u ≤ i
      · rw [if_pos z, if_pos (by omega)]
      · rw [if_neg z, if_neg (by omega)]
  · rcases h with h | ⟨h1, h2, h3, h4, h5⟩ | h | h
    · exact f3 c' u' v' y' (Or.inl h)
    · by_cases ei : v' = u
      · rw [h2, h5, ei]
        omega
      · dsimp only at h4
        rw [if_neg ei] at h4
        exact f3 c' u' v' y' (Or.inr (Or.inl ⟨h1, h2, h3, h4, h5⟩))
    · exact f3 c' u' v' y' (Or.inr (Or.inr (Or.inl h)))
    · exact f3 c' u' v' y' (Or.inr (Or.inr (Or.inr h)))
  · obtain ⟨c', u', y', b1, b2, b3⟩ := f4 v hv hv0 (by omega)
    refine ⟨c', u', y', b1, ?_, b3⟩
    rcases b2 with h | ⟨h1, h2, h3, h4, h5⟩ | h | h
    · exact Or.inl h
    · refine Or.inr (Or.inl ⟨h1, h2, h3, ?_, h5⟩)
      dsimp only
      by_cases ei : v = u
      · rw [if_pos ei]
        omega
      · rw [if_neg ei]
        exact h4
    · exact Or.inr (Or.inr (Or.inl h))
    · exact Or.inr (Or.inr (Or.inr h))
theorem tm_F17 (h : tm_F s e g us U w a6 a7 rk n t) (ht : t < 16) (hw : 0 < w t) (hk : rk (t + 1) < rk t) :
    tm_F s e g us U (fun i => if i = t then w i - 1 else w i) a6 a7 rk n (t + 1) := by
  obtain ⟨f1, f2, f3, f4⟩ := h
  refine ⟨f1, fun i hi => ?_, fun c' u' v' y' h => ?_, fun v hv hv0 hvk => ?_⟩
  · have h1 := f2 i hi
    dsimp only
    by_cases ei : i = t
    · rw [if_pos (by omega)] at h1
      rw [if_pos ei, if_neg (by omega)]
      rw [← ei] at hw
      omega
    · rw [if_neg ei, h1]
      by_cases z : t ≤ i
      · rw [if_pos z, if_pos (by omega)]
      · rw [if_neg z, if_neg (by omega)]
  · rcases h with h | ⟨h1, h2, h3, h4, h5⟩ | h | h
    · exact f3 c' u' v' y' (Or.inl h)
    · refine f3 c' u' v' y' (Or.inr (Or.inl ⟨h1, h2, h3, ?_, h5⟩))
      by_cases ei : v' = t
      · rw [ei]
        exact hw
      · dsimp only at h4
        rw [if_neg ei] at h4
        exact h4
    · exact f3 c' u' v' y' (Or.inr (Or.inr (Or.inl h)))
    · exact f3 c' u' v' y' (Or.inr (Or.inr (Or.inr h)))
  · obtain ⟨c', u', y', b1, b2, b3⟩ := f4 v hv hv0 (by omega)
    refine ⟨c', u', y', b1, ?_, b3⟩
    have ne : v ≠ t := by
      intro ev
      rw [ev] at hvk
      omega
    rcases b2 with h | ⟨h1, h2, h3, h4, h5⟩ | h | h
    · exact Or.inl h
    · refine Or.inr (Or.inl ⟨h1, h2, h3, ?_, h5⟩)
      dsimp only
      rw [if_neg ne]
      exact h4
    · exact Or.inr (Or.inr (Or.inl h))
    · exact Or.inr (Or.inr (Or.inr h))
theorem tm_Ff (h : tm_F s e g us U w a6 a7 rk n (e j)) (hj : j < 8) (hu : us j = true) (hU : U j = false) (hse : s j ≤ e j) (hr : (a6 (e j)).toInt ≤ (a6 (s j)).toInt + g j) (hk : rk (s j) < rk (e j))
    (h2 : ∀ i, i < 8 → U' i = (U i || decide (i = j))) : tm_F s e g us U' w a6 a7 rk n (s j) := by
  obtain ⟨f1, f2, f3, f4⟩ := h
  have hin : ∀ i, i < 8 → i ≠ j → U' i = U i := fun i hi ne => by rw [h2 i hi, decide_eq_false ne, Bool.or_false]
  refine ⟨fun i hi hi' => ?_, fun i hi => ?_, fun c' u' v' y' h => ?_, fun v hv hv0 hvk => ?_⟩
  · by_cases ei : i = j
    · rw [ei]
      exact hu
    · rw [hin i hi ei] at hi'
      exact f1 i hi hi'
  · have h1 := f2 i hi
    rw [tm_C_ins hj hU h2]
    unfold tm_c1
    by_cases z : s j ≤ i
    · by_cases y : e j ≤ i
      · rw [if_pos y] at h1
        rw [if_pos z, if_neg (by omega)]
        omega
      · rw [if_neg y] at h1
        rw [if_pos z, if_pos ⟨z, by omega⟩]
        omega
    · rw [if_neg (by omega)] at h1
      rw [if_neg z, if_neg (by omega)]
      omega
  · rcases h with h | h | ⟨h1, h2', h3, h4, h5, h6⟩ | ⟨i, h1, h2', h3, h4, h5, h6⟩
    · exact f3 c' u' v' y' (Or.inl h)
    · exact f3 c' u' v' y' (Or.inr (Or.inl h))
    · by_cases ei : c' = j
      · rw [ei, h2 j hj, decide_eq_true rfl, Bool.or_true] at h6
        exact absurd h6 (by decide)
      · rw [hin c' h1 ei] at h6
        exact f3 c' u' v' y' (Or.inr (Or.inr (Or.inl ⟨h1, h2', h3, h4, h5, h6⟩)))
    · by_cases ei : i = j
      · rw [h3, h4, h5, ei]
        omega
      · rw [hin i h1 ei] at h6
        exact f3 c' u' v' y' (Or.inr (Or.inr (Or.inr ⟨i, h1, h2', h3, h4, h5, h6⟩)))
  · obtain ⟨c', u', y', b1, b2, b3⟩ := f4 v hv hv0 (by omega)
    refine ⟨c', u', y', b1, ?_, b3⟩
    have ne : v ≠ e j := by
      intro ev
      rw [ev] at hvk
      omega
    rcases b2 with h | h | ⟨h1, h2', h3, h4, h5, h6⟩ | ⟨i, h1, h2', h3, h4, h5, h6⟩
    · exact Or.inl h
    · exact Or.inr (Or.inl h)
    · by_cases ei : c' = j
      · rw [ei] at h3
        exact absurd h3 ne
      · exact Or.inr (Or.inr (Or.inl ⟨h1, h2', h3, h4, h5, by rw [hin c' h1 ei]; exact h6⟩))
    · exact Or.inr (Or.inr (Or.inr ⟨i, h1, h2', h3, h4, h5, by rw [h2 i h1, h6, Bool.true_or]⟩))
theorem tm_Fb (h : tm_F s e g us U w a6 a7 rk n (s j)) (hj : j < 8) (hU : U j = true) (hse : s j ≤ e j) (hr : (a6 (s j)).toInt ≤ (a6 (e j)).toInt + - g j) (hk : rk (e j) < rk (s j))
    (h2 : ∀ i, i < 8 → U' i = (U i && !decide (i = j))) : tm_F s e g us U' w a6 a7 rk n (e j) := by
  obtain ⟨f1, f2, f3, f4⟩ := h
  have hin : ∀ i, i < 8 → i ≠ j → U' i = U i := fun i hi ne => by
    rw [h2 i hi, decide_eq_false ne]
    cases U i <;> rfl
  have hj' : U' j = false := by
    rw [h2 j hj, decide_eq_true rfl]
    cases U j <;> rfl
  refine ⟨fun i hi hi' => ?_, fun i hi => ?_, fun c' u' v' y' h => ?_, fun v hv hv0 hvk => ?_⟩
  · by_cases ei : i = j
    · rw [ei, hj'] at hi'
      exact absurd hi' (by decide)
    · rw [hin i hi ei] at hi'
      exact f1 i hi hi'
  · have h1 := f2 i hi
    rw [tm_C_del hj hU h2] at h1
    unfold tm_c1 at h1
    by_cases z : s j ≤ i
    · by_cases y : e j ≤ i
      · rw [if_pos z, if_neg (show ¬ (s j ≤ i ∧ i < e j) by omega)] at h1
        rw [if_pos y]
        omega
      · rw [if_pos z, if_pos (show s j ≤ i ∧ i < e j by omega)] at h1
        rw [if_neg y]
        omega
    · rw [if_neg z, if_neg (show ¬ (s j ≤ i ∧ i < e j) by omega)] at h1
      rw [if_neg (by omega)]
      omega
  · rcases h with h | h | ⟨h1, h2', h3, h4, h5, h6⟩ | ⟨i, h1, h2', h3, h4, h5, h6⟩
    · exact f3 c' u' v' y' (Or.inl h)
    · exact f3 c' u' v' y' (Or.inr (Or.inl h))
    · by_cases ei : c' = j
      · rw [h2', h3, h4, ei]
        omega
      · rw [hin c' h1 ei] at h6
        exact f3 c' u' v' y' (Or.inr (Or.inr (Or.inl ⟨h1, h2', h3, h4, h5, h6⟩)))
    · by_cases ei : i = j
      · rw [ei, hj'] at h6
        exact absurd h6 (by decide)
      · rw [hin i h1 ei] at h6
        exact f3 c' u' v' y' (Or.inr (Or.inr (Or.inr ⟨i, h1, h2', h3, h4, h5, h6⟩)))
  · obtain ⟨c', u', y', b1, b2, b3⟩ := f4 v hv hv0 (by omega)
    refine ⟨c', u', y', b1, ?_, b3⟩
    have ne : v ≠ s j := by
      intro ev
      rw [ev] at hvk
      omega
    rcases b2 with h | h | ⟨h1, h2', h3, h4, h5, h6⟩ | ⟨i, h1, h2', h3, h4, h5, h6⟩
    · exact Or.inl h
    · exact Or.inr (Or.inl h)
    · by_cases ei : c' = j
      · rw [ei, hU] at h6
        exact absurd h6 (by decide)
      · exact Or.inr (Or.inr (Or.inl ⟨h1, h2', h3, h4, h5, by rw [hin c' h1 ei]; exact h6⟩))
    · by_cases ei : i = j
      · rw [ei] at h4
        exact absurd h4 ne
      · exact Or.inr (Or.inr (Or.inr ⟨i, h1, h2', h3, h4, h5, by rw [hin i h1 ei]; exact h6⟩))
end
section
variable {post : St1 → Prop} {tc pr us kn cs : Int32} {a1 a2 a3 a4 a6 a7 : Nat → Int32} {s e : Nat → Nat} {g : Nat → Int} {rk : Nat → Nat} {n : Nat}
theorem tm_follow5 (h12 : ∀ j, j < 8 → a1 j = nI (s j) ∧ a2 j = nI (e j) ∧ s j ≤ 16 ∧ e j ≤ 16) (hse : ∀ j, j < 8 → tm_b us j = true → s j ≤ e j) (hn : n ≤ 50)
    (H : ∀ ud a5 w, (∀ i, i < 16 → a5 i = nI (w i) ∧ w i ≤ 100) → tm_sm ud → tm_F s e g (tm_b us) (tm_b ud) w a6 a7 rk n 0 → post (tc, pr, us, ud, kn, cs, a1, a2, a3, a4, a5, a6, a7)) :
    ∀ f t k ud a5 w, rk t < f → k + rk t < 64 → t < 17 → (∀ i, i < 16 → a5 i = nI (w i)) → tm_sm ud → tm_F s e g (tm_b us) (tm_b ud) w a6 a7 rk n t → wX_follow_5 post tc pr us kn cs f (nI t) (nI k) ud a1 a2 a3 a4 a5 a6 a7 := by
  intro f
  induction f with
  | zero => exact fun t k ud a5 w h => absurd h (by omega)
  | succ f ih =>
    intro t k ud a5 w hf hk ht h5 hsm hF
    have hwb : ∀ i, i < 16 → w i ≤ 100 := by
      intro i hi
      have h1 := hF.2.1 i hi
      have h2 := tm_C_nn (s := s) (e := e) (U := tm_b ud) (i := i)
      by_cases z : t ≤ i
      · rw [if_pos z] at h1
        omega
      · rw [if_neg z] at h1
        omega
    refine pk_le 64 k (fun z => absurd z (by omega)) (fun _ => pk_le t 0 (fun z => ?_) (fun z => ?_))
    · have e0 : t = 0 := by omega
      rw [e0] at hF
      exact H ud a5 w (fun i hi => ⟨h5 i hi, hwb i hi⟩) hsm hF
    · obtain ⟨c, u, y, b1, b2, b3, b4, b5⟩ := hF.2.2.2 t ht (by omega) (Nat.le_refl _)
      refine ⟨pk_in t 17 ht, nm_r (e' := nI c) (by rw [nI_clamp (by omega)]; exact b1) ?_⟩
      rcases b2 with ⟨h1, h2, h3, h4⟩ | ⟨h1, h2, h3, h4, h6⟩ | ⟨h1, h2, h3, h4, h6, h7⟩ | ⟨j, h0, h1, h2, h3, h4, h6⟩
      · subst h1 h2
        refine pk_eq 16 16 (fun _ => ?_) (fun z => absurd rfl z)
        refine ⟨pk_in u 16 h3 (nI_pred u), pk_in u 16 h3 (nI_pred u), nm_r (e' := upd a5 u (nI (w u + 1))) ?_ (nm_r (pk_m1 u) (nm_r (nI_1 k) ?_))⟩
        · have := hwb u h3
          rw [nI_pred, nI_clamp (by omega), h5 u h3, nI_1, tm_narN _ (by omega)]
        · refine ih u (k + 1) ud _ _ (by omega) (by omega) (by omega) (fun i hi => ?_) hsm (tm_F16 hF (by omega) b5)
          by_cases ei : i = u
          · rw [ei, pk_us, if_pos rfl]
          · rw [pk_un ei, if_neg ei]
            exact h5 i hi
      · subst h1 h2
        refine pk_eq 17 16 (fun z => absurd z (by omega)) (fun _ => pk_eq 17 17 (fun _ => ?_) (fun z => absurd rfl z))
        refine ⟨pk_in t 16 h3, pk_in t 16 h3, nm_r (e' := upd a5 t (nI (w t - 1))) ?_ (nm_r (nI_1 t) (nm_r (nI_1 k) ?_))⟩
        · have := hwb t h3
          rw [nI_clamp (by omega), h5 t h3, show (1 : Int32) = nI 1 from rfl, pk_sub h4, tm_narN _ (by omega)]
        · refine ih (t + 1) (k + 1) ud _ _ (by omega) (by omega) (by omega) (fun i hi => ?_) hsm (tm_F17 hF h3 h4 b5)
          by_cases ei : i = t
          · rw [ei, pk_us, if_pos rfl]
          · rw [pk_un ei, if_neg ei]
            exact h5 i hi
      · subst h2 h3
        obtain ⟨x1, x2, x3, x4⟩ := h12 c h1
        refine pk_eq c 16 (fun z => absurd z (by omega)) (fun _ => pk_eq c 17 (fun z => absurd z (by omega)) (fun _ => pk_lt c 8 (fun _ => pk_lt c 0 (fun z => absurd z (by omega)) (fun _ => ?_)) (fun z => absurd z (by omega))))
        refine nm_e ⟨pk_in c 8 h1, nm_r (e' := nI (s c)) (by rw [nI_clamp (by omega)]; exact x1) (nm_r (nI_1 k) ?_)⟩
        refine ih (s c) (k + 1) _ a5 w (by omega) (by omega) (by omega) h5 (tm_sm_set hsm h1) (tm_Ff hF h1 h6 h7 (hse c h1 h6) (by omega) b5 (fun i hi => tm_setb (by omega) (by omega)))
      · subst h1 h2 h3
        obtain ⟨x1, x2, x3, x4⟩ := h12 j h0
        have e8 : nI (8 + j) - 8 = nI j := by
          rw [show (8 : Int32) = nI 8 from rfl, pk_sub (by omega)]
          congr 1
          omega
        refine pk_eq (8 + j) 16 (fun z => absurd z (by omega)) (fun _ => pk_eq (8 + j) 17 (fun z => absurd z (by omega)) (fun _ => pk_lt (8 + j) 8 (fun z => absurd z (by omega)) (fun _ => ?_)))
        rw [e8]
        refine nm_e ⟨pk_in j 8 h0, nm_r (e' := nI (e j)) (by rw [nI_clamp (by omega)]; exact x2) (nm_r (nI_1 k) ?_)⟩
        refine ih (e j) (k + 1) _ a5 w (by omega) (by omega) (by omega) h5 (tm_sm_clr hsm h0) (tm_Fb hF h0 h6 (hse j h0 (hF.1 j h0 h6)) (by omega) b5 (fun i hi => tm_clrb (by omega) (by omega)))
end
/-- a flow of n units and a potential for it -/
def tm_Fl (s e : Nat → Nat) (g : Nat → Int) (us : Nat → Bool) (ud : Int32) (w : Nat → Nat) (d : Nat → Int) (n : Nat) : Prop :=
  tm_sm ud ∧ (∀ j, j < 8 → tm_b ud j = true → us j = true) ∧ (∀ i, i < 16 → tm_C s e (tm_b ud) i + w i = n) ∧
  (∀ c u v y, tm_A s e g us (tm_b ud) w c u v y → d u + y ≤ d v) ∧ d 0 = 0 ∧ (∀ v, v < 17 → 0 ≤ d v ∧ d v ≤ 67108864)
section
variable {post : St1 → Prop} {tc pr us ud kn cs : Int32} {a1 a2 a3 a4 a5 a6 a7 : Nat → Int32} {s e w : Nat → Nat} {g : Nat → Int} {d : Nat → Int} {n k : Nat}
theorem tm_unit (hX : tm_X s e g w a1 a2 a4 a5) (hse : ∀ j, j < 8 → tm_b us j = true → s j ≤ e j) (hn : n ≤ 50) (hF : tm_Fl s e g (tm_b us) ud w d n)
    (H : ∀ ud' b5 b6 b7 w' d', tm_X s e g w' a1 a2 a4 b5 → tm_Fl s e g (tm_b us) ud' w' d' (n + 1) → post (tc, pr, us, ud', kn, cs, a1, a2, a3, a4, b5, b6, b7)) :
    wpX_findWays (fun u => match u with | (f1, f2, f3, f4, f5, f6, c1, c2, c3, c4, c5, c6, c7) => wpX_follow post (f1, f2, f3, f4, f5, f6, c1, c2, c3, c4, c5, c6, c7)) (tc, pr, us, ud, kn, cs, a1, a2, a3, a4, a5, a6, a7) := by
  obtain ⟨f1, f2, f3, f4, f5, f6⟩ := hF
  refine tm_findWays hX f4 f5 f6 (fun b6 b7 hI hz hD => ?_)
  obtain ⟨rk, r1, r2⟩ := tm_rank hI hz
  have hAu : ∀ {c u v y} {U : Nat → Bool} {w : Nat → Nat}, tm_A s e g (tm_b us) U w c u v y → u < 17 := by
    intro c u v y U w h
    rcases h with ⟨_, _, h, _⟩ | ⟨_, h, h2, _⟩ | ⟨h1, h2, _⟩ | ⟨j, h1, _, h2, _⟩
    · omega
    · omega
    · have := (hX.1 c h1).2.2.2.1
      omega
    · have := (hX.1 j h1).2.2.2.2.1
      omega
  show wpX_follow post (tc, pr, us, ud, kn, cs, a1, a2, a3, a4, a5, b6, b7)
  refine ⟨18, tm_follow5 (s := s) (e := e) (g := g) (rk := rk) (n := n) (fun j hj => ?_) hse hn (fun ud' b5 w' h5 hsm hF => ?_) 18 16 0 ud a5 w ?_ ?_ (by omega) (fun i hi => (hX.2 i hi).1) f1 ⟨f2, fun i hi => ?_, fun c u v y h => hD c u v y (hAu h) h, fun v hv hv0 _ => r2 v hv hv0⟩⟩
  · obtain ⟨x1, x2, _, x4, x5, _⟩ := hX.1 j hj
    exact ⟨x1, x2, x4, x5⟩
  · obtain ⟨g1, g2, g3, g4⟩ := hF
    refine H ud' b5 b6 b7 w' (fun v => (b6 v).toInt) ⟨hX.1, h5⟩ ⟨hsm, g1, fun i hi => ?_, g3, hI.2.1, fun v hv => ⟨hz v hv, ?_⟩⟩
    · have := g2 i hi
      rw [if_pos (Nat.zero_le i)] at this
      omega
    · have h1 := hI.1 v hv
      have h2 := f6 v hv
      show (b6 v).toInt ≤ 67108864
      omega
  · have := r1 16
    omega
  · have := r1 16
    omega
  · rw [f3 i hi, if_neg (by omega)]
    omega
theorem tm_send (hX : tm_X s e g w a1 a2 a4 a5) (hse : ∀ j, j < 8 → tm_b us j = true → s j ≤ e j) (hk : k ≤ 50) (hF : tm_Fl s e g (tm_b us) ud w d 0)
    (H : ∀ ud' b5 b6 b7 w' d', tm_Fl s e g (tm_b us) ud' w' d' k → post (tc, pr, us, ud', kn, cs, a1, a2, a3, a4, b5, b6, b7)) :
    wpX_send post (tc, pr, us, ud, kn, cs, a1, a2, a3, a4, a5, a6, a7) (nI k) := by
  unfold wpX_send
  refine pk_loop (fun n i (t : Int32 × (Nat → Int32) × (Nat → Int32) × (Nat → Int32)) => wX_send_2 post (nI k) n (nI i) tc pr us t.1 kn cs a1 a2 a3 a4 t.2.1 t.2.2.1 t.2.2.2)
    (fun i t => ∃ w d, tm_X s e g w a1 a2 a4 t.2.1 ∧ tm_Fl s e g (tm_b us) t.1 w d i) k 0 (ud, a5, a6, a7) (by omega) ⟨w, d, hX, hF⟩ (fun n t h => ?_) (fun n i t hi h hw => ?_)
  · obtain ⟨w, d, h1, h2⟩ := h
    exact pk_le k k (fun _ => H t.1 t.2.1 t.2.2.1 t.2.2.2 w d h2) (fun z => absurd z (by omega))
  · obtain ⟨w, d, h1, h2⟩ := h
    refine pk_le k i (fun z => absurd z (by omega)) (fun _ => ?_)
    exact tm_unit h1 hse (by omega) h2 (fun ud' b5 b6 b7 w' d' m1 m2 => nm_r (nI_1 i) (hw (ud', b5, b6, b7) ⟨w', d', m1, m2⟩))
theorem tm_prepare {p0 : Int32} (h3 : ∀ j, j < 8 → a3 j = nI (w j))
    (H : ∀ b4 b5, (∀ j, j < 8 → b4 j = nI (tm_m w j)) → (∀ i, i < 16 → b5 i = 0) → post (tc, pr, p0, 0, kn, cs, a1, a2, a3, b4, b5, a6, a7)) :
    wpX_prepare post (tc, pr, us, ud, kn, cs, a1, a2, a3, a4, a5, a6, a7) p0 := by
  unfold wpX_prepare
  refine pk_loop (fun n i (t : Nat → Int32) => wX_prepare_12 post tc pr p0 0 kn cs n (nI i) a1 a2 a3 t a5 a6 a7) (fun i t => ∀ j, j < i → t j = nI (tm_m w j)) 8 0 a4 (by omega) (fun j hj => absurd hj (by omega)) (fun n t h => ?_) (fun n i t hi h hw => ?_)
  · refine pk_le 8 8 (fun _ => ?_) (fun z => absurd z (by omega))
    refine pk_loop (fun n i (t' : Nat → Int32) => wX_prepare_37 post tc pr p0 0 kn cs n (nI i) a1 a2 a3 t t' a6 a7) (fun i t' => ∀ j, j < i → t' j = 0) 16 0 a5 (by omega) (fun j hj => absurd hj (by omega)) (fun n t' h' => ?_) (fun n i t' hi h' hw => ?_)
    · exact pk_le 16 16 (fun _ => H t t' h h') (fun z => absurd z (by omega))
    · refine pk_le 16 i (fun z => absurd z (by omega)) (fun _ => ⟨pk_in i 16 hi, nm_e (nm_r (nI_1 i) (hw _ (fun j hj => ?_)))⟩)
      rw [nI_clamp (by omega)]
      by_cases ej : j = i
      · rw [ej, pk_us]
      · rw [pk_un ej]
        exact h' j (by omega)
  · refine pk_le 8 i (fun z => absurd z (by omega)) (fun _ => ⟨pk_in i 8 hi, ⟨pk_in i 8 hi, nm_e (nm_r (nI_1 i) (hw _ (fun j hj => ?_)))⟩⟩)
    rw [tm_mw hi (h3 i hi), nI_clamp (show i < 2 ^ 31 by omega)]
    by_cases ej : j = i
    · rw [ej, pk_us]
    · rw [pk_un ej]
      exact h j (by omega)
end
end
section
/-! ===== best sets: send, choose, markedSum, crowd, bestWith, totalWith, totalFor ===== -/
/-- the jobs -/
def tm_B (s e w : Nat → Nat) (pr : Int32) (a1 a2 a3 : Nat → Int32) : Prop :=
  tm_sm pr ∧ (∀ j, j < 8 → a1 j = nI (s j) ∧ a2 j = nI (e j) ∧ a3 j = nI (w j) ∧ s j ≤ 16 ∧ e j ≤ 16 ∧ w j ≤ 20) ∧ (∀ j, j < 8 → tm_b pr j = true → s j < e j ∧ 1 ≤ w j)
/-- a set that fits on k tracks -/
def tm_Fe (s e : Nat → Nat) (us : Nat → Bool) (k : Nat) (V : Nat → Bool) : Prop := (∀ j, j < 8 → V j = true → us j = true) ∧ ∀ i, i < 16 → tm_C s e V i ≤ k
/-- the best set -/
def tm_Op (s e w : Nat → Nat) (us : Nat → Bool) (k : Nat) (U : Int32) : Prop := tm_sm U ∧ tm_Fe s e us k (tm_b U) ∧ ∀ V, tm_Fe s e us k V → tm_M w V ≤ tm_M w (tm_b U)
theorem tm_gm0 {w : Nat → Nat} {m p : Nat → Bool} (h : ∀ j, j < 8 → m j = false) : tm_S p (tm_gm w m) 8 = tm_M w p := by
  refine tm_S_eq (fun j hj => ?_)
  by_cases z : p j = true
  · rw [if_pos z, if_pos z]
    unfold tm_gm
    rw [h j hj, if_neg (by decide)]
    omega
  · rw [if_neg z, if_neg z]
section
variable {post : St1 → Prop} {tc pr us ud kn cs : Int32} {a1 a2 a3 a4 a5 a6 a7 : Nat → Int32} {s e w : Nat → Nat} {k : Nat}
theorem tm_sendB {m : Nat → Bool} (hB : tm_B s e w pr a1 a2 a3) (hus : ∀ j, j < 8 → tm_b us j = true → tm_b pr j = true) (h4 : ∀ j, j < 8 → (a4 j).toInt = tm_gm w m j) (h5 : ∀ i, i < 16 → a5 i = 0) (hk : k ≤ 50)
    (H : ∀ ud' b5 b6 b7, tm_sm ud' → tm_Fe s e (tm_b us) k (tm_b ud') → (∀ V, tm_Fe s e (tm_b us) k V → tm_S V (tm_gm w m) 8 ≤ tm_S (tm_b ud') (tm_gm w m) 8) → post (tc, pr, us, ud', kn, cs, a1, a2, a3, a4, b5, b6, b7)) :
    wpX_send post (tc, pr, us, 0, kn, cs, a1, a2, a3, a4, a5, a6, a7) (nI k) := by
  obtain ⟨b1, b2, b3⟩ := hB
  have gb : ∀ j, j < 8 → 0 ≤ tm_gm w m j ∧ tm_gm w m j ≤ 1053824 := by
    intro j hj
    have h1 := tm_mb hj (b2 j hj).2.2.2.2.2
    unfold tm_gm
    by_cases z : m j = true
    · rw [if_pos z]
      omega
    · rw [if_neg z]
      omega
  have hse : ∀ j, j < 8 → tm_b us j = true → s j ≤ e j := fun j hj h => Nat.le_of_lt (b3 j hj (hus j hj h)).1
  refine tm_send (s := s) (e := e) (g := tm_gm w m) (w := fun _ => 0) (d := fun v => 1053824 * (v : Int)) ⟨fun j hj => ?_, fun i hi => ⟨h5 i hi, Nat.zero_le 100⟩⟩ hse hk ⟨tm_sm_0, fun j _ z => ?_, fun i hi => ?_, fun c u v y h => ?_, rfl, fun v hv => ?_⟩ (fun ud' b5 b6 b7 w' d' hF => ?_)
  · obtain ⟨x1, x2, x3, x4, x5, x6⟩ := b2 j hj
    have := gb j hj
    exact ⟨x1, x2, h4 j hj, x4, x5, by omega, by omega⟩
  · rw [tm_b0] at z
    exact absurd z (by decide)
  · have e1 : tm_C s e (tm_b 0) i = 0 := by
      unfold tm_C
      have : tm_S (tm_b 0) (fun j => if s j ≤ i ∧ i < e j then 1 else 0) 8 = tm_S (fun _ => false) (fun _ => 0) 8 := tm_S_eq (fun j hj => by rw [tm_b0, if_neg (by decide), if_neg (by decide)])
      rw [this]
      rfl
    rw [e1]
    rfl
  · dsimp only
    rcases h with ⟨h1, h2, h3, h6⟩ | ⟨h1, h2, h3, h6, h7⟩ | ⟨h1, h2, h3, h6, h7, h8⟩ | ⟨j, h0, h1, h2, h3, h6, h7⟩
    · omega
    · exact absurd h6 (Nat.lt_irrefl 0)
    · have h9 := (b3 c h1 (hus c h1 h7)).1
      have h10 := gb c h1
      rw [h2, h3, h6]
      omega
    · rw [tm_b0] at h7
      exact absurd h7 (by decide)
  · dsimp only
    omega
  · obtain ⟨f1, f2, f3, f4, _⟩ := hF
    refine H ud' b5 b6 b7 f1 ⟨f2, fun i hi => ?_⟩ (fun V hV => tm_dual (fun j hj h => ⟨hse j hj h, (b2 j hj).2.2.2.2.1⟩) f2 f3 f4 hV.1 hV.2)
    have := f3 i hi
    omega
theorem tm_choose (hB : tm_B s e w pr a1 a2 a3) (htc : tc = nI k) (hk : k ≤ 50) (hK : kn ≠ 0 → tm_Op s e w (tm_b pr) k cs)
    (H : ∀ us' ud' kn' cs' b4 b5 b6 b7, kn' ≠ 0 → tm_Op s e w (tm_b pr) k cs' → post (tc, pr, us', ud', kn', cs', a1, a2, a3, b4, b5, b6, b7)) :
    wpX_choose post (tc, pr, us, ud, kn, cs, a1, a2, a3, a4, a5, a6, a7) := by
  refine br_c (fun _ => ?_) (fun z => H _ _ _ _ _ _ _ _ z (hK z))
  refine tm_prepare (w := w) (fun j hj => (hB.2.1 j hj).2.2.1) (fun b4 b5 h4 h5 => ?_)
  subst htc
  refine tm_sendB (m := fun _ => false) hB (fun j _ h => h) (fun j hj => ?_) h5 hk (fun ud' b5 b6 b7 h1 h2 h3 => H _ _ _ _ _ _ _ _ (by decide) ⟨h1, h2, fun V hV => ?_⟩)
  · rw [h4 j hj, nI_toInt]
    · unfold tm_gm
      rw [if_neg (show ¬ false = true by decide)]
      omega
    · have := tm_mb hj (hB.2.1 j hj).2.2.2.2.2
      omega
  · have := h3 V hV
    rw [tm_gm0 (fun _ _ => rfl), tm_gm0 (fun _ _ => rfl)] at this
    exact this
end
section
variable {tc pr us ud kn cs : Int32} {a1 a2 a3 a4 a5 a6 a7 : Nat → Int32} {s e w : Nat → Nat} {k : Nat} {p0 p1 : Int32}
theorem tm_markedSum {post : Int32 → Prop} (hB : tm_B s e w pr a1 a2 a3) (H : ∀ r : Int32, r.toInt = tm_M w (tm_b p0) → post r) : wpX_markedSum post (tc, pr, us, ud, kn, cs, a1, a2, a3, a4, a5, a6, a7) p0 := by
  have mb : ∀ j, j < 8 → 1 ≤ tm_m w j ∧ tm_m w j ≤ 5248 := fun j hj => tm_mb hj (hB.2.1 j hj).2.2.2.2.2
  unfold wpX_markedSum
  refine pk_loop (fun n i (x : Int32) => wX_markedSum_4 post p0 tc pr us ud kn cs a1 a2 a3 a4 a5 a6 a7 n x (nI i)) (fun i x => i ≤ 8 ∧ x.toInt = tm_S (tm_b p0) (fun j => (tm_m w j : Int)) i) 8 0 0 (by omega) ⟨by omega, rfl⟩ (fun n x h => ?_) (fun n i x hi h hw => ?_)
  · exact pk_le 8 8 (fun _ => H x h.2) (fun z => absurd z (by omega))
  · have n1 : 0 ≤ tm_S (tm_b p0) (fun j => (tm_m w j : Int)) i := tm_S_nn (fun j _ => by omega)
    have n2 := tm_S_ub (p := tm_b p0) (f := fun j => (tm_m w j : Int)) (B := 5248) (by omega) (n := i) (fun j hj => by
      have := mb j (by omega)
      omega)
    have n3 := mb i hi
    have es : tm_S (tm_b p0) (fun j => (tm_m w j : Int)) (i + 1) = tm_S (tm_b p0) (fun j => (tm_m w j : Int)) i + (if tm_b p0 i = true then (tm_m w i : Int) else 0) := rfl
    refine pk_le 8 i (fun z => absurd z (by omega)) (fun _ => ek_if (tm_bit0 p0 i (by omega)) (fun z => nm_r (nI_1 i) (hw x ⟨by omega, ?_⟩)) (fun z => ⟨pk_in i 8 hi, nm_r (e' := x + nI (tm_m w i)) ?_ (nm_r (nI_1 i) (hw _ ⟨by omega, ?_⟩))⟩))
    · rw [es, z, if_neg (by decide), h.2]
      omega
    · rw [tm_mw hi (hB.2.1 i hi).2.2.1]
    · have z' : tm_b p0 i = true := by
        cases y : tm_b p0 i
        · exact absurd y z
        · rfl
      have e1 : (nI (tm_m w i)).toInt = (tm_m w i : Int) := nI_toInt (by omega)
      rw [es, if_pos z', tm_addI (by rw [h.2, e1]; omega) (by rw [h.2, e1]; omega), h.2, e1]
theorem tm_shr8 (x : Int32) : (x >>> ((8 : Int32) &&& 31)).toInt = x.toInt / 256 := by
  rw [pk_shr x ((8 : Int32) &&& 31) 8 (by decide), Int.shiftRight_eq_div_pow]
  rfl
theorem tm_total {post : Int32 → St1 → Prop} (hB : tm_B s e w pr a1 a2 a3) (htc : tc = nI k) (hk : k ≤ 50) (hK : kn ≠ 0 → tm_Op s e w (tm_b pr) k cs)
    (H : ∀ r us' ud' kn' cs' b4 b5 b6 b7, kn' ≠ 0 → tm_Op s e w (tm_b pr) k cs' → r.toInt = tm_M w (tm_b cs') / 256 → post r (tc, pr, us', ud', kn', cs', a1, a2, a3, b4, b5, b6, b7)) :
    wpX_total post (tc, pr, us, ud, kn, cs, a1, a2, a3, a4, a5, a6, a7) := by
  unfold wpX_total
  refine tm_choose hB htc hk hK (fun us' ud' kn' cs' b4 b5 b6 b7 h1 h2 => ?_)
  refine tm_markedSum hB (fun r hr => ?_)
  exact H _ _ _ _ _ _ _ _ _ h1 h2 (by rw [tm_shr8, hr])
theorem tm_Op_eq {U V : Int32} (h1 : tm_Op s e w (tm_b pr) k U) (h2 : tm_Op s e w (tm_b pr) k V) : tm_M w (tm_b U) = tm_M w (tm_b V) :=
  Int.le_antisymm (h2.2.2 _ h1.2.1) (h1.2.2 _ h2.2.1)
theorem tm_crowd {post : Int32 → Prop} {t : Nat} (hB : tm_B s e w pr a1 a2 a3) (ht : p1 = nI t) (htb : t ≤ 16) (H : ∀ r : Int32, r.toInt = tm_C s e (tm_b p0) t → post r) : wpX_crowd post (tc, pr, us, ud, kn, cs, a1, a2, a3, a4, a5, a6, a7) p0 p1 := by
  subst ht
  unfold wpX_crowd
  refine pk_loop (fun n i (x : Int32) => wX_crowd_5 post p0 (nI t) tc pr us ud kn cs a1 a2 a3 a4 a5 a6 a7 n x (nI i)) (fun i x => i ≤ 8 ∧ x.toInt = tm_S (tm_b p0) (fun j => if s j ≤ t ∧ t < e j then 1 else 0) i) 8 0 0 (by omega) ⟨by omega, rfl⟩ (fun n x h => ?_) (fun n i x hi h hw => ?_)
  · exact pk_le 8 8 (fun _ => H x h.2) (fun z => absurd z (by omega))
  · obtain ⟨x1, x2, _, x4, x5, _⟩ := hB.2.1 i hi
    have n1 : 0 ≤ tm_S (tm_b p0) (fun j => if s j ≤ t ∧ t < e j then 1 else 0) i := tm_S_nn (fun j _ => by
      by_cases h : s j ≤ t ∧ t < e j
      · rw [if_pos h]
        decide
      · rw [if_neg h]
        decide)
    have n2 := tm_S_ub (p := tm_b p0) (f := fun j => if s j ≤ t ∧ t < e j then 1 else 0) (B := 1) (by omega) (n := i) (fun j hj => by
      by_cases h : s j ≤ t ∧ t < e j
      · rw [if_pos h]
        decide
      · rw [if_neg h]
        decide)
    have es : tm_S (tm_b p0) (fun j => if s j ≤ t ∧ t < e j then 1 else 0) (i + 1) = tm_S (tm_b p0) (fun j => if s j ≤ t ∧ t < e j then 1 else 0) i + (if tm_b p0 i = true then (if s i ≤ t ∧ t < e i then 1 else 0) else 0) := rfl
    have skip : (tm_b p0 i = true → ¬ (s i ≤ t ∧ t < e i)) → i + 1 ≤ 8 ∧ x.toInt = tm_S (tm_b p0) (fun j => if s j ≤ t ∧ t < e j then 1 else 0) (i + 1) := by
      intro z
      refine ⟨by omega, ?_⟩
      rw [es, h.2]
      by_cases y : tm_b p0 i = true
      · rw [if_pos y, if_neg (z y)]
        omega
      · rw [if_neg y]
        omega
    refine pk_le 8 i (fun z => absurd z (by omega)) (fun _ => ek_if (tm_bit0 p0 i (by omega)) (fun z => nm_r (nI_1 i) (hw x (skip (fun y => by rw [z] at y; exact absurd y (by decide))))) (fun z => ⟨pk_in i 8 hi, ?_⟩))
    rw [nI_clamp (show i < 2 ^ 31 by omega), x1, x2]
    refine pk_lt t (s i) (fun y => nm_r (nI_1 i) (hw x (skip (fun _ => by omega)))) (fun y => ⟨pk_in i 8 hi, pk_le (e i) t (fun y' => nm_r (nI_1 i) (hw x (skip (fun _ => by omega)))) (fun y' => nm_e (nm_r (nI_1 i) (hw _ ⟨by omega, ?_⟩)))⟩)
    have z' : tm_b p0 i = true := by
      cases y : tm_b p0 i
      · exact absurd y z
      · rfl
    have e1 : (1 : Int32).toInt = 1 := rfl
    rw [es, if_pos z', if_pos ⟨y, y'⟩, tm_addI (by rw [h.2, e1]; omega) (by rw [h.2, e1]; omega), h.2, e1]
theorem tm_greatest {post : Int32 → Prop} (hB : tm_B s e w pr a1 a2 a3) (H : ∀ r : Int32, (∀ k : Nat, r.toInt ≤ k ↔ ∀ i, i < 16 → tm_C s e (tm_b p0) i ≤ k) → post r) : wpX_greatestCrowd post (tc, pr, us, ud, kn, cs, a1, a2, a3, a4, a5, a6, a7) p0 := by
  unfold wpX_greatestCrowd
  refine pk_loop (fun n i (x : Int32) => wX_greatestCrowd_4 post p0 tc pr us ud kn cs a1 a2 a3 a4 a5 a6 a7 n x (nI i)) (fun i x => ∀ k : Nat, x.toInt ≤ k ↔ ∀ t, t < i → tm_C s e (tm_b p0) t ≤ k) 16 0 0 (by omega) (fun k => ⟨fun _ t ht => absurd ht (by omega), fun _ => ?_⟩) (fun n x h => ?_) (fun n i x hi h hw => ?_)
  · show (0 : Int) ≤ k
    omega
  · exact pk_le 16 16 (fun _ => H x h) (fun z => absurd z (by omega))
  · refine pk_le 16 i (fun z => absurd z (by omega)) (fun _ => tm_crowd hB rfl (by omega) (fun r hr => ?_))
    refine br_c (fun z => nm_r (nI_1 i) (hw x (fun k => ⟨fun y t ht => ?_, fun y => (h k).mpr (fun t ht => y t (by omega))⟩))) (fun z => nm_r (nI_1 i) (hw r (fun k => ⟨fun y t ht => ?_, fun y => ?_⟩)))
    · rw [Int32.le_iff_toInt_le] at z
      by_cases et : t = i
      · rw [et, ← hr]
        omega
      · exact (h k).mp y t (by omega)
    · rw [Int32.le_iff_toInt_le] at z
      by_cases et : t = i
      · rw [et, ← hr]
        omega
      · exact (h k).mp (by omega) t (by omega)
    · rw [hr]
      exact y i (by omega)
theorem tm_fits {post : Int32 → Prop} (hB : tm_B s e w pr a1 a2 a3) (htc : tc = nI k) (hk : k ≤ 50)
    (H1 : (p0 &&& (pr ^^^ (-1))) = 0 → (∀ i, i < 16 → tm_C s e (tm_b p0) i ≤ k) → post 1) (H0 : ¬ ((p0 &&& (pr ^^^ (-1))) = 0 ∧ ∀ i, i < 16 → tm_C s e (tm_b p0) i ≤ k) → post 0) :
    wpX_fits post (tc, pr, us, ud, kn, cs, a1, a2, a3, a4, a5, a6, a7) p0 := by
  unfold wpX_fits
  refine br_c (fun z => tm_greatest hB (fun r hr => ?_)) (fun z => H0 (fun t => z t.1))
  have hlt : tc < r ↔ ¬ r.toInt ≤ k := by
    rw [Int32.lt_iff_toInt_lt, htc, nI_toInt (by omega)]
    omega
  refine br_c (fun y => H0 (fun t => (hlt.mp y) ((hr k).mpr t.2))) (fun y => H1 z ((hr k).mp ?_))
  by_cases g : r.toInt ≤ k
  · exact g
  · exact absurd (hlt.mpr g) y
/-- what bestWith answers -/
def tm_BW (s e w : Nat → Nat) (pr m v : Nat → Bool) (k : Nat) (r : Int32) : Prop :=
  (tm_sm r ∧ tm_Fe s e pr k (tm_b r) ∧ (∀ j, j < 8 → m j = true → tm_b r j = true) ∧ (∀ j, j < 8 → v j = true → tm_b r j = false) ∧
    ∀ V, tm_Fe s e pr k V → (∀ j, j < 8 → m j = true → V j = true) → (∀ j, j < 8 → v j = true → V j = false) → tm_M w V ≤ tm_M w (tm_b r)) ∨
  (r = -1 ∧ ∀ V, tm_Fe s e pr k V → (∀ j, j < 8 → m j = true → V j = true) → (∀ j, j < 8 → v j = true → V j = false) → False)
theorem tm_bestWith {post : Int32 → St1 → Prop} (hB : tm_B s e w pr a1 a2 a3) (htc : tc = nI k) (hk : k ≤ 50) (hm : tm_sm p0)
    (H : ∀ r us' ud' b4 b5 b6 b7, tm_BW s e w (tm_b pr) (tm_b p0) (tm_b p1) k r → post r (tc, pr, us', ud', kn, cs, a1, a2, a3, b4, b5, b6, b7)) :
    wpX_bestWith post (tc, pr, us, ud, kn, cs, a1, a2, a3, a4, a5, a6, a7) p0 p1 := by
  unfold wpX_bestWith
  refine tm_prepare (w := w) (fun j hj => (hB.2.1 j hj).2.2.1) (fun b4 b5 h4 h5 => ?_)
  have mb : ∀ j, j < 8 → 1 ≤ tm_m w j ∧ tm_m w j ≤ 5248 := fun j hj => tm_mb hj (hB.2.1 j hj).2.2.2.2.2
  have ub : ∀ j, j < 8 → tm_b (pr &&& (p1 ^^^ (-1))) j = (tm_b pr j && !tm_b p1 j) := fun j hj => by rw [tm_band, tm_not p1 (by omega)]
  have g0 : ∀ j, j < 8 → (b4 j).toInt = (tm_m w j : Int) := fun j hj => by
    have := mb j hj
    rw [h4 j hj, nI_toInt (by omega)]
  refine pk_loop (fun n i (t : Nat → Int32) => wX_bestWith_14 post p0 tc pr (pr &&& (p1 ^^^ (-1))) 0 kn cs n (nI i) a1 a2 a3 t b5 a6 a7) (fun i t => (∀ j, j < i → (t j).toInt = tm_gm w (tm_b p0) j) ∧ ∀ j, j < 8 → i ≤ j → (t j).toInt = (tm_m w j : Int)) 8 0 b4 (by omega) ⟨fun j hj => absurd hj (by omega), fun j hj _ => g0 j hj⟩ (fun n t h => ?_) (fun n i t hi h hw => ?_)
  · refine pk_le 8 8 (fun _ => ?_) (fun z => absurd z (by omega))
    subst htc
    refine tm_sendB (m := tm_b p0) hB (fun j hj z => ?_) h.1 h5 hk (fun ud' b5 b6 b7 k1 k2 k3 => ?_)
    · rw [ub j hj] at z
      cases y : tm_b pr j
      · rw [y] at z
        exact absurd z (by simp)
      · rfl
    · have fe : ∀ V, tm_Fe s e (tm_b (pr &&& (p1 ^^^ (-1)))) k V ↔ tm_Fe s e (tm_b pr) k V ∧ ∀ j, j < 8 → tm_b p1 j = true → V j = false := by
        intro V
        constructor
        · intro hV
          refine ⟨⟨fun j hj z => ?_, hV.2⟩, fun j hj z => ?_⟩
          · have y := hV.1 j hj z
            rw [ub j hj] at y
            cases x : tm_b pr j
            · rw [x] at y
              exact absurd y (by simp)
            · rfl
          · cases x : V j
            · rfl
            · have y := hV.1 j hj x
              rw [ub j hj, z] at y
              exact absurd y (by simp)
        · intro hV
          refine ⟨fun j hj z => ?_, hV.1.2⟩
          rw [ub j hj, hV.1.1 j hj z]
          cases x : tm_b p1 j
          · rfl
          · rw [hV.2 j hj x] at z
            exact absurd z (by decide)
      obtain ⟨k4, k5⟩ := (fe _).mp k2
      have key : ∀ V, tm_Fe s e (tm_b pr) k V → (∀ j, j < 8 → tm_b p0 j = true → V j = true) → (∀ j, j < 8 → tm_b p1 j = true → V j = false) → (∀ j, j < 8 → tm_b p0 j = true → tm_b ud' j = true) ∧ tm_M w V ≤ tm_M w (tm_b ud') :=
        fun V v1 v2 v3 => tm_must (fun j hj => (hB.2.1 j hj).2.2.2.2.2) (k3 V ((fe V).mpr ⟨v1, v3⟩)) v2
      refine br_c (fun z => H _ _ _ _ _ _ _ (Or.inl ⟨k1, k4, fun j hj y => tm_sub0.mp z j (by omega) y, k5, fun V v1 v2 v3 => (key V v1 v2 v3).2⟩)) (fun z => H _ _ _ _ _ _ _ (Or.inr ⟨rfl, fun V v1 v2 v3 => z (tm_sm_sub hm (key V v1 v2 v3).1)⟩))
  · refine pk_le 8 i (fun z => absurd z (by omega)) (fun _ => ek_if (tm_bit0 p0 i (by omega)) (fun z => nm_r (nI_1 i) (hw t ⟨fun j hj => ?_, fun j hj y => h.2 j hj (by omega)⟩)) (fun z => ⟨pk_in i 8 hi, pk_in i 8 hi, nm_e (nm_r (nI_1 i) (hw _ ⟨fun j hj => ?_, fun j hj y => ?_⟩))⟩))
    · by_cases ej : j = i
      · rw [ej, h.2 i hi (by omega)]
        unfold tm_gm
        rw [z, if_neg (by decide)]
        omega
      · exact h.1 j (by omega)
    · rw [nI_clamp (show i < 2 ^ 31 by omega)]
      by_cases ej : j = i
      · have z' : tm_b p0 i = true := by
          cases y : tm_b p0 i
          · exact absurd y z
          · rfl
        have e1 : (1048576 : Int32).toInt = 1048576 := rfl
        have e2 := h.2 i hi (by omega)
        have e3 := mb i hi
        rw [ej, pk_us, tm_addI (by rw [e1, e2]; omega) (by rw [e1, e2]; omega), e1, e2]
        unfold tm_gm
        rw [if_pos z']
      · rw [pk_un ej]
        exact h.1 j (by omega)
    · rw [nI_clamp (show i < 2 ^ 31 by omega), pk_un (by omega)]
      exact h.2 j hj (by omega)
end
end
section
/-! ===== totalWith, totalFor, gain, loss, price ===== -/
/-- what totalWith answers -/
def tm_TW (s e w : Nat → Nat) (pr m v : Nat → Bool) (k : Nat) (r : Int32) : Prop :=
  (∃ U : Int32, tm_Fe s e pr k (tm_b U) ∧ (∀ V, tm_Fe s e pr k V → (∀ j, j < 8 → m j = true → pr j = true → V j = true) → (∀ j, j < 8 → v j = true → V j = false) → tm_M w V ≤ tm_M w (tm_b U)) ∧ r.toInt = tm_M w (tm_b U) / 256) ∨
  (r = -1 ∧ ∀ V, tm_Fe s e pr k V → (∀ j, j < 8 → m j = true → pr j = true → V j = true) → (∀ j, j < 8 → v j = true → V j = false) → False)
section
variable {post : Int32 → St1 → Prop} {tc pr us ud kn cs : Int32} {a1 a2 a3 a4 a5 a6 a7 : Nat → Int32} {s e w : Nat → Nat} {k : Nat} {p0 p1 : Int32}
theorem tm_TW_le {m v : Nat → Bool} {r c : Int32} (hw : ∀ j, j < 8 → w j ≤ 20) (h : tm_TW s e w (tm_b pr) m v k r) (hc : tm_Op s e w (tm_b pr) k c) : r.toInt ≤ tm_M w (tm_b c) / 256 := by
  rcases h with ⟨U, h1, _, h3⟩ | ⟨h1, _⟩
  · have h4 := hc.2.2 _ h1
    omega
  · have h4 := tm_M_b hw (tm_b c)
    have e1 : (-1 : Int32).toInt = -1 := rfl
    rw [h1, e1]
    omega
theorem tm_TW_eq {m v : Nat → Bool} {r c : Int32} (h : tm_TW s e w (tm_b pr) m v k r) (hc : tm_Op s e w (tm_b pr) k c) (h1 : ∀ j, j < 8 → m j = true → tm_b pr j = true → tm_b c j = true) (h2 : ∀ j, j < 8 → v j = true → tm_b c j = false) : r.toInt = tm_M w (tm_b c) / 256 := by
  rcases h with ⟨U, b1, b2, b3⟩ | ⟨_, b2⟩
  · have h4 := hc.2.2 _ b1
    have h5 := b2 _ hc.2.1 h1 h2
    rw [b3, Int.le_antisymm h4 h5]
  · exact absurd (b2 _ hc.2.1 h1 h2) (fun z => z)
theorem tm_totalWith (hB : tm_B s e w pr a1 a2 a3) (htc : tc = nI k) (hk : k ≤ 50) (hz : ((p0 &&& p1) &&& pr) = 0)
    (H : ∀ r us' ud' b4 b5 b6 b7, tm_TW s e w (tm_b pr) (tm_b p0) (tm_b p1) k r → post r (tc, pr, us', ud', kn, cs, a1, a2, a3, b4, b5, b6, b7)) :
    wpX_totalWith post (tc, pr, us, ud, kn, cs, a1, a2, a3, a4, a5, a6, a7) p0 p1 := by
  unfold wpX_totalWith
  refine br_t hz (tm_bestWith hB htc hk (tm_sm_and' hB.1) (fun r us' ud' b4 b5 b6 b7 hr => ?_))
  have hm : ∀ V : Nat → Bool, (∀ j, j < 8 → tm_b p0 j = true → tm_b pr j = true → V j = true) → ∀ j, j < 8 → tm_b (p0 &&& pr) j = true → V j = true := by
    intro V hV j hj z
    rw [tm_band] at z
    cases x : tm_b p0 j
    · rw [x] at z
      exact absurd z (by simp)
    · cases y : tm_b pr j
      · rw [y] at z
        exact absurd z (by simp)
      · exact hV j hj x y
  rcases hr with ⟨r1, r2, r3, r4, r5⟩ | ⟨r1, r2⟩
  · have hp := tm_sm_nn r1
    refine br_t hp (tm_markedSum hB (fun x hx => br_t hp (H _ _ _ _ _ _ _ (Or.inl ⟨r, r2, fun V v1 v2 v3 => r5 V v1 (hm V v2) v3, ?_⟩))))
    rw [tm_shr8, hx]
  · have hp : ¬ 0 ≤ r := by
      rw [r1]
      decide
    exact br_f hp (br_f hp (H _ _ _ _ _ _ _ (Or.inr ⟨rfl, fun V v1 v2 v3 => r2 V v1 (hm V v2) v3⟩)))
theorem tm_totalFor (hB : tm_B s e w pr a1 a2 a3) (hp : p0 = nI k) (hk : k ≤ 50)
    (H : ∀ r U us' ud' b4 b5 b6 b7, tm_Op s e w (tm_b pr) k U → r.toInt = tm_M w (tm_b U) / 256 → post r (tc, pr, us', ud', kn, cs, a1, a2, a3, b4, b5, b6, b7)) :
    wpX_totalFor post (tc, pr, us, ud, kn, cs, a1, a2, a3, a4, a5, a6, a7) p0 := by
  unfold wpX_totalFor
  subst hp
  refine tm_prepare (w := w) (fun j hj => (hB.2.1 j hj).2.2.1) (fun b4 b5 h4 h5 => ?_)
  refine tm_sendB (m := fun _ => false) hB (fun j _ h => h) (fun j hj => ?_) h5 hk (fun ud' b5 b6 b7 h1 h2 h3 => tm_markedSum hB (fun r hr => H _ ud' _ _ _ _ _ _ ⟨h1, h2, fun V hV => ?_⟩ (by rw [tm_shr8, hr])))
  · rw [h4 j hj, nI_toInt]
    · unfold tm_gm
      rw [if_neg (show ¬ false = true by decide)]
      omega
    · have := tm_mb hj (hB.2.1 j hj).2.2.2.2.2
      omega
  · have := h3 V hV
    rw [tm_gm0 (fun _ _ => rfl), tm_gm0 (fun _ _ => rfl)] at this
    exact this
theorem tm_Op_mono {k' : Nat} {U V : Int32} (hkk : k ≤ k') (h1 : tm_Op s e w (tm_b pr) k U) (h2 : tm_Op s e w (tm_b pr) k' V) : tm_M w (tm_b U) ≤ tm_M w (tm_b V) :=
  h2.2.2 _ ⟨h1.2.1.1, fun i hi => by
    have := h1.2.1.2 i hi
    omega⟩
theorem tm_dif {x y : Int32} {a b : Int} (hx : x.toInt = a / 256) (hy : y.toInt = b / 256) (h : a ≤ b) (ha : 0 ≤ a) (hb : b ≤ 41984) : 0 ≤ y - x := by
  rw [Int32.le_iff_toInt_le, tm_subI (by omega) (by omega)]
  show (0 : Int) ≤ _
  omega
theorem tm_gain (hB : tm_B s e w pr a1 a2 a3) (htc : tc = nI k) (hk : k ≤ 40) (hK : kn ≠ 0 → tm_Op s e w (tm_b pr) k cs)
    (H : ∀ r us' ud' kn' cs' b4 b5 b6 b7, kn' ≠ 0 → tm_Op s e w (tm_b pr) k cs' → 0 ≤ r → post r (tc, pr, us', ud', kn', cs', a1, a2, a3, b4, b5, b6, b7)) :
    wpX_gain post (tc, pr, us, ud, kn, cs, a1, a2, a3, a4, a5, a6, a7) := by
  have hw : ∀ j, j < 8 → w j ≤ 20 := fun j hj => (hB.2.1 j hj).2.2.2.2.2
  unfold wpX_gain
  refine tm_total hB htc (by omega) hK (fun r us' ud' kn' cs' b4 b5 b6 b7 h1 h2 h3 => ?_)
  refine tm_totalFor (k := k + 1) hB (by rw [htc, nI_1]) (by omega) (fun x U us' ud' b4 b5 b6 b7 g1 g2 => H _ _ _ _ _ _ _ _ _ h1 h2 ?_)
  exact tm_dif h3 g2 (tm_Op_mono (by omega) h2 g1) (tm_M_b hw _).1 (tm_M_b hw _).2
theorem tm_loss (hB : tm_B s e w pr a1 a2 a3) (htc : tc = nI k) (hk : k ≤ 40) (hK : kn ≠ 0 → tm_Op s e w (tm_b pr) k cs)
    (H0 : k = 0 → ∀ us' ud' kn' cs' b4 b5 b6 b7, (kn' ≠ 0 → tm_Op s e w (tm_b pr) k cs') → post (-1) (tc, pr, us', ud', kn', cs', a1, a2, a3, b4, b5, b6, b7))
    (H1 : k ≠ 0 → ∀ r us' ud' kn' cs' b4 b5 b6 b7, (kn' ≠ 0 → tm_Op s e w (tm_b pr) k cs') → 0 ≤ r → post r (tc, pr, us', ud', kn', cs', a1, a2, a3, b4, b5, b6, b7)) :
    wpX_loss post (tc, pr, us, ud, kn, cs, a1, a2, a3, a4, a5, a6, a7) := by
  have hw : ∀ j, j < 8 → w j ≤ 20 := fun j hj => (hB.2.1 j hj).2.2.2.2.2
  unfold wpX_loss
  refine pk_eq k 0 (fun z => H0 z _ _ _ _ _ _ _ _ hK) (fun z => ?_) htc rfl
  refine tm_total hB htc (by omega) hK (fun r us' ud' kn' cs' b4 b5 b6 b7 h1 h2 h3 => ?_)
  refine tm_totalFor (k := k - 1) hB (by rw [htc, show (1 : Int32) = nI 1 from rfl, pk_sub (by omega)]) (by omega) (fun x U us' ud' b4 b5 b6 b7 g1 g2 => H1 z _ _ _ _ _ _ _ _ _ (fun _ => h2) ?_)
  exact tm_dif g2 h3 (tm_Op_mono (by omega) g1 h2) (tm_M_b hw _).1 (tm_M_b hw _).2
theorem tm_has {post : Int32 → Prop} {j : Nat} (hj : j < 8) (H0 : tm_b pr j = false → post 0) (H1 : tm_b pr j = true → post 1) :
    wpX_has post (tc, pr, us, ud, kn, cs, a1, a2, a3, a4, a5, a6, a7) (nI j) := by
  unfold wpX_has
  refine pk_lt j 0 (fun z => absurd z (by omega)) (fun _ => pk_le 8 j (fun z => absurd z (by omega)) (fun _ => ek_if (tm_bit0 pr j (by omega)) H0 (fun z => H1 ?_)))
  cases y : tm_b pr j
  · exact absurd y z
  · rfl
theorem tm_M_del {c c' : Int32} {j : Nat} (hj : j < 8) (h : tm_b c j = true) (h2 : ∀ i, i < 8 → tm_b c' i = (tm_b c i && !decide (i = j))) : tm_M w (tm_b c) = tm_M w (tm_b c') + tm_m w j :=
  tm_S_ins (by rw [h2 j hj, decide_eq_true rfl]; cases tm_b c j <;> rfl) h hj (fun i hi ne => by rw [h2 i hi, decide_eq_false ne]; cases tm_b c i <;> rfl)
theorem tm_Fe0 {pr : Nat → Bool} : tm_Fe s e pr k (fun _ => false) := by
  refine ⟨fun j _ z => absurd z (show ¬ false = true by decide), fun i _ => ?_⟩
  have : tm_C s e (fun _ => false) i = 0 := by
    show 0 + (if false = true then _ else 0) + (if false = true then _ else 0) + (if false = true then _ else 0) + (if false = true then _ else 0) + (if false = true then _ else 0) + (if false = true then _ else 0) + (if false = true then _ else 0) + (if false = true then _ else 0) = (0 : Int)
    rfl
  omega
theorem tm_price {j : Nat} (hj : j < 8) (hB : tm_B s e w pr a1 a2 a3) (htc : tc = nI k) (hk : k ≤ 50)
    (H0 : tm_b pr j = false → ∀ us' ud' b4 b5 b6 b7, post (-1) (tc, pr, us', ud', kn, cs, a1, a2, a3, b4, b5, b6, b7))
    (H1 : tm_b pr j = true → ∀ p us' ud' b4 b5 b6 b7, 1 ≤ p → p ≤ 21 → (∀ c, tm_Op s e w (tm_b pr) k c → (tm_b c j = true ↔ p ≤ w j)) → post (nI p) (tc, pr, us', ud', kn, cs, a1, a2, a3, b4, b5, b6, b7)) :
    wpX_price post (tc, pr, us, ud, kn, cs, a1, a2, a3, a4, a5, a6, a7) (nI j) := by
  have hw : ∀ j, j < 8 → w j ≤ 20 := fun j hj => (hB.2.1 j hj).2.2.2.2.2
  have one : ∀ i, i < 8 → tm_b ((1 : Int32) <<< (nI j &&& 31)) i = decide (i = j) := fun i hi => tm_one j (by omega) i (by omega)
  unfold wpX_price
  refine tm_has hj (fun z => br_t rfl (H0 z _ _ _ _ _ _)) (fun z => br_f (by decide) ?_)
  refine tm_bestWith hB htc hk (tm_sm_one hj) (fun r us' ud' b4 b5 b6 b7 hr => ?_)
  rcases hr with ⟨r1, r2, r3, r4, r5⟩ | ⟨r1, r2⟩
  · have hrj : tm_b r j = true := r3 j hj (by rw [one j hj, decide_eq_true rfl])
    refine br_t (tm_sm_nn r1) (tm_markedSum hB (fun oth hoth => tm_bestWith hB htc hk tm_sm_0 (fun q us' ud' b4 b5 b6 b7 hq => tm_markedSum hB (fun mq hmq => nm_e ?_))))
    have hq' : tm_Fe s e (tm_b pr) k (tm_b q) ∧ tm_b q j = false ∧ ∀ V, tm_Fe s e (tm_b pr) k V → V j = false → tm_M w V ≤ tm_M w (tm_b q) := by
      rcases hq with ⟨q1, q2, q3, q4, q5⟩ | ⟨_, q2⟩
      · refine ⟨q2, q4 j hj (by rw [one j hj, decide_eq_true rfl]), fun V v1 v2 => q5 V v1 (fun i _ y => ?_) (fun i hi y => ?_)⟩
        · rw [tm_b0] at y
          exact absurd y (by decide)
        · rw [one i hi] at y
          rw [of_decide_eq_true y]
          exact v2
      · refine absurd (q2 (fun _ => false) tm_Fe0 (fun i _ y => ?_) (fun _ _ _ => rfl)) (fun z => z)
        rw [tm_b0] at y
        exact absurd y (by decide)
    obtain ⟨q1, q2, q3⟩ := hq'
    have hM : tm_M w (tm_b r) = tm_M w (tm_b (r &&& (((1 : Int32) <<< (nI j &&& 31)) ^^^ (-1)))) + tm_m w j := tm_M_del hj hrj (fun i hi => tm_clrb (by omega) (by omega))
    have m1 := tm_M_b hw (tm_b r)
    have m2 := tm_M_b hw (tm_b q)
    have m3 := tm_M_b hw (tm_b (r &&& (((1 : Int32) <<< (nI j &&& 31)) ^^^ (-1))))
    have hgap : (mq - oth).toInt = tm_M w (tm_b q) - (tm_M w (tm_b r) - tm_m w j) := by
      rw [tm_subI (by omega) (by omega)]
      omega
    have t1 := tm_p2 j hj
    have hne : tm_M w (tm_b r) ≠ tm_M w (tm_b q) := tm_M_ne hj (by rw [hrj, q2]; decide)
    have fin : ∀ p : Nat, 1 ≤ p → (p ≤ 20 → tm_M w (tm_b q) - (tm_M w (tm_b r) - tm_m w j) < ((p * 256 + 2 ^ (7 - j) : Nat) : Int)) → (p ≤ 21) → (∀ x, 1 ≤ x → x < p → ((x * 256 + 2 ^ (7 - j) : Nat) : Int) ≤ tm_M w (tm_b q) - (tm_M w (tm_b r) - tm_m w j)) → ∀ c, tm_Op s e w (tm_b pr) k c → (tm_b c j = true ↔ p ≤ w j) := by
      intro p p1 p2 p3 p4 c hc
      have c1 := hc.2.2 _ r2
      have c2 := hc.2.2 _ q1
      have hwj := hw j hj
      have hw1 := (hB.2.2 j hj z).2
      have hmj : tm_m w j = w j * 256 + 2 ^ (7 - j) := rfl
      constructor
      · intro y
        have c3 := r5 _ hc.2.1 (fun i hi x => by
          rw [one i hi] at x
          rw [of_decide_eq_true x]
          exact y) (fun i hi x => by
          rw [tm_b0] at x
          exact absurd x (by decide))
        rcases Nat.lt_or_ge (w j) p with g | g
        · have := p4 (w j) hw1 g
          omega
        · exact g
      · intro y
        cases x : tm_b c j
        · have c3 := q3 _ hc.2.1 x
          have := p2 (by omega)
          exfalso
          generalize 2 ^ (7 - j) = T at *
          omega
        · rfl
    refine pk_loop (σ := Unit) (fun n i _ => wX_price_61 post (nI j) (mq - oth) tc pr us' ud' kn cs a1 a2 a3 b4 b5 b6 b7 n (nI i)) (fun i _ => 1 ≤ i ∧ ∀ x, 1 ≤ x → x < i → ((x * 256 + 2 ^ (7 - j) : Nat) : Int) ≤ tm_M w (tm_b q) - (tm_M w (tm_b r) - tm_m w j)) 21 1 () (by omega) ⟨by omega, fun x h1 h2 => absurd h1 (by omega)⟩ (fun n _ h => ?_) (fun n i _ hi h hw' => ?_)
    · exact pk_lt 20 21 (fun _ => H1 z 21 _ _ _ _ _ _ (by omega) (by omega) (fin 21 (by omega) (fun y => absurd y (by omega)) (by omega) h.2)) (fun y => absurd y (by omega))
    · refine pk_lt 20 i (fun y => absurd y (by omega)) (fun _ => ?_)
      have ev : nI i * 256 + ((1 : Int32) <<< ((7 - nI j) &&& 31)) = nI (i * 256 + 2 ^ (7 - j)) := by
        rw [tm_tg j hj]
        show nI i * nI 256 + _ = _
        rw [pk_mul, nI_add]
      have hle : (nI i * 256 + ((1 : Int32) <<< ((7 - nI j) &&& 31)) ≤ mq - oth) ↔ ((i * 256 + 2 ^ (7 - j) : Nat) : Int) ≤ tm_M w (tm_b q) - (tm_M w (tm_b r) - tm_m w j) := by
        rw [ev, Int32.le_iff_toInt_le, hgap, nI_toInt (by omega)]
      refine ek_if hle (fun y => nm_r (nI_1 i) (hw' () ⟨by omega, fun x h1 h2 => ?_⟩)) (fun y => H1 z i _ _ _ _ _ _ h.1 (by omega) (fin i h.1 (fun _ => by omega) (by omega) h.2))
      by_cases ex : x = i
      · rw [ex]
        exact y
      · exact h.2 x h1 (by omega)
  · have hp : ¬ 0 ≤ r := by
      rw [r1]
      decide
    refine br_f hp (H1 z 21 _ _ _ _ _ _ (by omega) (by omega) (fun c hc => ⟨fun y => ?_, fun y => ?_⟩))
    · refine absurd (r2 _ hc.2.1 (fun i hi x => ?_) (fun i hi x => ?_)) (fun z => z)
      · rw [one i hi] at x
        rw [of_decide_eq_true x]
        exact y
      · rw [tm_b0] at x
        exact absurd x (by decide)
    · have := hw j hj
      omega
end
end
section
/-! ===== the law's three checks ===== -/
section
variable {post : Int32 → St1 → Prop} {tc pr us ud kn cs : Int32} {a1 a2 a3 a4 a5 a6 a7 : Nat → Int32} {s e w : Nat → Nat} {k : Nat}
theorem tm_jobs {post : Int32 → Prop} (h : post pr) : wpX_jobs post (tc, pr, us, ud, kn, cs, a1, a2, a3, a4, a5, a6, a7) := h
theorem tm_tracks {post : Int32 → Prop} (h : post tc) : wpX_tracks post (tc, pr, us, ud, kn, cs, a1, a2, a3, a4, a5, a6, a7) := h
theorem tm_chosen (hB : tm_B s e w pr a1 a2 a3) (htc : tc = nI k) (hk : k ≤ 50) (hK : kn ≠ 0 → tm_Op s e w (tm_b pr) k cs)
    (H : ∀ us' ud' kn' cs' b4 b5 b6 b7, kn' ≠ 0 → tm_Op s e w (tm_b pr) k cs' → post cs' (tc, pr, us', ud', kn', cs', a1, a2, a3, b4, b5, b6, b7)) :
    wpX_chosen post (tc, pr, us, ud, kn, cs, a1, a2, a3, a4, a5, a6, a7) := by
  unfold wpX_chosen
  exact tm_choose hB htc hk hK (fun us' ud' kn' cs' b4 b5 b6 b7 h1 h2 => H us' ud' kn' cs' b4 b5 b6 b7 h1 h2)
theorem tm_ch115 {J : Int32 → Int32 → Int32 → Int32 → Int32 → Int32 → Int32 → (Nat → Int32) → (Nat → Int32) → (Nat → Int32) → (Nat → Int32) → (Nat → Int32) → (Nat → Int32) → (Nat → Int32) → Prop} {x1 x2 x3 x5 x6 x7 z0 : Int32} {j : Nat} (hj : j < 8)
    (hz : z0 = 1 ∨ z0 = 0) (h1 : ¬ x3 < x6) (h2 : ¬ x3 < x7) (h3 : z0 = 1 → tm_b x1 j = true → x6 = x3) (h4 : z0 = 1 → ¬ x5 < 1) (h5 : z0 = 0 → x5 = -1) (HJ : J (nI (j + 1)) tc pr us ud kn cs a1 a2 a3 a4 a5 a6 a7) :
    wL_chosen_115 post J x1 x2 x3 (nI j) x5 x6 x7 z0 tc pr us ud kn cs a1 a2 a3 a4 a5 a6 a7 := by
  have c173 : wL_chosen_173 post J x1 x2 x3 (nI j) x5 z0 tc pr us ud kn cs a1 a2 a3 a4 a5 a6 a7 := by
    rcases hz with e1 | e1
    · exact br_f (by rw [e1]; decide) (nm_r (nI_1 j) HJ)
    · exact br_t e1 (br_t (h5 e1) (nm_r (nI_1 j) HJ))
  have c162 : wL_chosen_162 post J x1 x2 x3 (nI j) x5 z0 tc pr us ud kn cs a1 a2 a3 a4 a5 a6 a7 := by
    rcases hz with e1 | e1
    · exact br_f (by rw [e1]; decide) (br_f (h4 e1) c173)
    · exact br_t e1 c173
  unfold wL_chosen_115
  refine ek_if (tm_bit1 x1 j (by omega)) (fun y => br_f h1 (br_f h2 ?_)) (fun y => br_f h1 (br_f h2 (br_c (fun _ => c162) (fun _ => br_t rfl c162))))
  rcases hz with e1 | e1
  · exact br_f (by rw [e1]; decide) (br_f (by decide) (br_t (h3 e1 y) c162))
  · exact br_t e1 c162
theorem tm_Lchosen (hB : tm_B s e w pr a1 a2 a3) (htc : tc = nI k) (hk : k ≤ 40) (hK : kn ≠ 0 → tm_Op s e w (tm_b pr) k cs)
    (H : ∀ us' ud' kn' cs' b4 b5 b6 b7, (kn' ≠ 0 → tm_Op s e w (tm_b pr) k cs') → post 1 (tc, pr, us', ud', kn', cs', a1, a2, a3, b4, b5, b6, b7)) :
    wpL_chosen post (tc, pr, us, ud, kn, cs, a1, a2, a3, a4, a5, a6, a7) := by
  have hw : ∀ j, j < 8 → w j ≤ 20 := fun j hj => (hB.2.1 j hj).2.2.2.2.2
  unfold wpL_chosen
  refine tm_chosen hB htc (by omega) hK (fun us1 ud1 kn1 c b4 b5 b6 b7 g1 hc => ?_)
  refine tm_jobs ?_
  refine tm_total hB htc (by omega) (fun _ => hc) (fun tot us2 ud2 kn2 cs2 c4 c5 c6 c7 g3 g4 htot' => ?_)
  have htot : tot.toInt = tm_M w (tm_b c) / 256 := by rw [htot', tm_Op_eq g4 hc]
  have hsub : (c &&& (pr ^^^ (-1))) = 0 := tm_sm_sub hc.1 hc.2.1.1
  refine tm_fits hB htc (by omega) (fun _ _ => br_f (by decide) (br_t hsub ?_)) (fun z => absurd ⟨hsub, hc.2.1.2⟩ z)
  refine tm_totalWith hB htc (by omega) (by rw [Int32.zero_and, Int32.zero_and]) (fun r us3 ud3 d4 d5 d6 d7 hr => br_t ?_ ?_)
  · refine Int32.toInt_inj.mp ?_
    rw [htot]
    refine tm_TW_eq hr hc (fun j _ y => ?_) (fun j _ y => ?_)
    · rw [tm_b0] at y
      exact absurd y (by decide)
    · rw [tm_b0] at y
      exact absurd y (by decide)
  refine tm_totalWith hB htc (by omega) (by rw [Int32.and_zero, Int32.zero_and]) (fun r us4 ud4 e4 e5 e6 e7 hr => br_t ?_ ?_)
  · refine Int32.toInt_inj.mp ?_
    rw [htot]
    refine tm_TW_eq hr hc (fun j _ y _ => y) (fun j _ y => ?_)
    rw [tm_b0] at y
    exact absurd y (by decide)
  refine tm_gain hB htc (by omega) (fun _ => g4) (fun r us5 ud5 kn5 cs5 f4 f5 f6 f7 g5 g6 g7 => br_t g7 ?_)
  refine pk_loop (fun n i (t : Int32 × Int32 × (Nat → Int32) × (Nat → Int32) × (Nat → Int32) × (Nat → Int32)) => wL_chosen_63 post c pr tot n (nI i) tc pr t.1 t.2.1 kn5 cs5 a1 a2 a3 t.2.2.1 t.2.2.2.1 t.2.2.2.2.1 t.2.2.2.2.2)
    (fun _ _ => True) 8 0 (us5, ud5, f4, f5, f6, f7) (by omega) trivial (fun n t _ => ?_) (fun n j t hj _ hw' => ?_)
  · refine pk_le 8 8 (fun _ => ?_) (fun z => absurd z (by omega))
    refine tm_tracks (pk_eq k 0 (fun z => ?_) (fun z => ?_) htc rfl)
    · refine tm_loss hB htc hk (fun _ => g6) (fun _ us' ud' kn' cs' b4 b5 b6 b7 h => br_t rfl (H _ _ _ _ _ _ _ _ h)) (fun y => absurd z y)
    · refine tm_loss hB htc hk (fun _ => g6) (fun y => absurd y z) (fun _ r us' ud' kn' cs' b4 b5 b6 b7 h y => br_f ?_ (H _ _ _ _ _ _ _ _ h))
      rw [Int32.lt_iff_toInt_lt]
      rw [Int32.le_iff_toInt_le] at y
      omega
  · refine pk_le 8 j (fun z => absurd z (by omega)) (fun _ => ?_)
    have one : ∀ i, i < 8 → tm_b ((1 : Int32) <<< (nI j &&& 31)) i = decide (i = j) := fun i hi => tm_one j (by omega) i (by omega)
    have rest : ∀ p : Int32, (tm_b pr j = true → ¬ p < 1) → (tm_b pr j = false → p = -1) → ∀ us' ud' b4 b5 b6 b7, wpX_totalWith (fun r_237 u => match u with | (f0_trackCount_238, f0_present_239, f0_usable_240, f0_used_241, f0_known_242, f0_chosenSet_243, am841_246, am842_249, am843_252, am844_255, am845_258, am846_261, am847_264) => (wpX_totalWith (fun r_265 u => match u with | (f0_trackCount_266, f0_present_267, f0_usable_268, f0_used_269, f0_known_270, f0_chosenSet_271, am951_274, am952_277, am953_280, am954_283, am955_286, am956_289, am957_292) => (((((pr >>> (nI j &&& 31)) &&& 1) = 1 → (wL_chosen_115 post (wL_chosen_63 post c pr tot n) c pr tot (nI j) p r_237 r_265 1 f0_trackCount_266 f0_present_267 f0_usable_268 f0_used_269 f0_known_270 f0_chosenSet_271 am951_274 am952_277 am953_280 am954_283 am955_286 am956_289 am957_292)) ∧ (¬ ((pr >>> (nI j &&& 31)) &&& 1) = 1 → (wL_chosen_115 post (wL_chosen_63 post c pr tot n) c pr tot (nI j) p r_237 r_265 0 f0_trackCount_266 f0_present_267 f0_usable_268 f0_used_269 f0_known_270 f0_chosenSet_271 am951_274 am952_277 am953_280 am954_283 am955_286 am956_289 am957_292))))) (f0_trackCount_238, f0_present_239, f0_usable_240, f0_used_241, f0_known_242, f0_chosenSet_243, am841_246, am842_249, am843_252, am844_255, am845_258, am846_261, am847_264) 0 ((1 : Int32) <<< (nI j &&& 31)))) (tc, pr, us', ud', kn5, cs5, a1, a2, a3, b4, b5, b6, b7) ((1 : Int32) <<< (nI j &&& 31)) 0 := by
      intro p p1 p2 us' ud' b4 b5 b6 b7
      refine tm_totalWith hB htc (by omega) (by rw [Int32.and_zero, Int32.zero_and]) (fun x us6 ud6 x4 x5 x6 x7 hx => ?_)
      refine tm_totalWith hB htc (by omega) (by rw [Int32.zero_and, Int32.zero_and]) (fun y us7 ud7 y4 y5 y6 y7 hy => ?_)
      have l1 : ¬ tot < x := by
        have := tm_TW_le hw hx hc
        rw [Int32.lt_iff_toInt_lt]
        omega
      have l2 : ¬ tot < y := by
        have := tm_TW_le hw hy hc
        rw [Int32.lt_iff_toInt_lt]
        omega
      have l3 : tm_b c j = true → x = tot := by
        intro z
        refine Int32.toInt_inj.mp ?_
        rw [htot]
        refine tm_TW_eq hx hc (fun i hi v _ => ?_) (fun i _ v => ?_)
        · rw [one i hi] at v
          rw [of_decide_eq_true v]
          exact z
        · rw [tm_b0] at v
          exact absurd v (by decide)
      have nx := hw' (us7, ud7, y4, y5, y6, y7) trivial
      refine ek_if (tm_bit1 pr j (by omega)) (fun z => tm_ch115 hj (Or.inl rfl) l1 l2 (fun _ v => l3 v) (fun _ => p1 z) (fun v => absurd v (by decide)) nx) (fun z => tm_ch115 hj (Or.inr rfl) l1 l2 (fun v => absurd v (by decide)) (fun v => absurd v (by decide)) (fun _ => p2 ?_) nx)
      cases v : tm_b pr j
      · rfl
      · exact absurd v z
    refine tm_price hj hB htc (by omega) (fun z us' ud' b4 b5 b6 b7 => rest (-1) (fun v => ?_) (fun _ => rfl) us' ud' b4 b5 b6 b7) (fun z p us' ud' b4 b5 b6 b7 q1 q2 _ => rest (nI p) (fun _ => nI_nlt (b := 1) q1 (by omega)) (fun v => ?_) us' ud' b4 b5 b6 b7)
    · rw [z] at v
      exact absurd v (by decide)
    · rw [z] at v
      exact absurd v (by decide)
end
end
section
/-! ===== the law's long of worths; prices, busy ===== -/
def tm_L (x : Int64) (i : Nat) : Bool := x.toBitVec.getLsbD i
/-- the field of job j in the law's long -/
def tm_fl (x : Int64) (j : Nat) : Int32 := ((x >>> ((5 * nI j).toInt64 &&& 63)).toInt32) &&& 31
theorem tm_k5 : ∀ j, j < 8 → ((5 * nI j).toInt64 &&& 63) = lN (5 * j) := by decide +kernel
theorem tm_sm64 : ∀ k, k < 64 → ((lN k).toBitVec.smod 64).toNat = k := by decide +kernel
theorem tm_b31 : ∀ i, i < 32 → tm_b 31 i = decide (i < 5) := by decide +kernel
theorem tm_L31 : ∀ i, i < 64 → tm_L 31 i = decide (i < 5) := by decide +kernel
theorem tm_Lm1 : ∀ i, i < 64 → tm_L (-1) i = true := by decide +kernel
theorem tm_Lshl {k : Nat} (hk : k < 64) (x : Int64) {i : Nat} (hi : i < 64) : tm_L (x <<< lN k) i = (decide (k ≤ i) && tm_L x (i - k)) := by
  unfold tm_L
  rw [Int64.toBitVec_shiftLeft]
  show (x.toBitVec <<< ((lN k).toBitVec.smod 64).toNat).getLsbD i = _
  rw [tm_sm64 k hk, BitVec.getLsbD_shiftLeft]
  rcases Nat.lt_or_ge i k with h | h
  · simp [h, Nat.not_le.mpr h]
  · simp [hi, h, Nat.not_lt.mpr h]
theorem tm_fl_b {x : Int64} {j b : Nat} (hj : j < 8) (hb : b < 32) : tm_b (tm_fl x j) b = (decide (b < 5) && tm_L x (5 * j + b)) := by
  unfold tm_fl
  rw [tm_band, tm_b31 b hb, tm_k5 j hj]
  by_cases h : b < 5
  · rw [decide_eq_true h, Bool.and_true, Bool.true_and]
    unfold tm_b tm_L
    rw [Int64.toBitVec_toInt32, Int64.toBitVec_shiftRight]
    show ((x.toBitVec.sshiftRight ((lN (5 * j)).toBitVec.smod 64).toNat).signExtend 32).getLsbD b = _
    rw [tm_sm64 _ (by omega), BitVec.getLsbD_signExtend, decide_eq_true hb, if_pos (by omega), Bool.true_and, BitVec.getLsbD_sshiftRight, if_pos (by omega)]
    simp
    omega
  · rw [decide_eq_false h, Bool.and_false, Bool.false_and]
theorem tm_LlN {v i : Nat} (hi : i < 64) : tm_L (lN v) i = v.testBit i := by
  show (BitVec.ofNat 64 v).getLsbD i = _
  rw [BitVec.getLsbD_ofNat, decide_eq_true hi, Bool.true_and]
theorem tm_bnI {v i : Nat} (hi : i < 32) : tm_b (nI v) i = v.testBit i := by
  show (BitVec.ofNat 32 v).getLsbD i = _
  rw [BitVec.getLsbD_ofNat, decide_eq_true hi, Bool.true_and]
theorem tm_tb {v i : Nat} (hv : v < 32) (hi : 5 ≤ i) : v.testBit i = false := by
  refine Nat.testBit_lt_two_pow (Nat.lt_of_lt_of_le hv ?_)
  exact Nat.pow_le_pow_right (n := 2) (i := 5) (j := i) (by omega) hi
theorem tm_fl_put {x : Int64} {i j v : Nat} (hi : i < 8) (hj : j < 8) (hv : v < 32) :
    tm_fl ((x &&& (((31 : Int64) <<< ((5 * nI i).toInt64 &&& 63)) ^^^ (-1))) ||| ((nI v).toInt64 <<< ((5 * nI i).toInt64 &&& 63))) j = if j = i then nI v else tm_fl x j := by
  rw [tm_k5 i hi, nI_l (by omega)]
  apply tm_ext
  intro b hb
  rw [tm_fl_b hj hb]
  have key : b < 5 → tm_L ((x &&& (((31 : Int64) <<< lN (5 * i)) ^^^ (-1))) ||| (lN v <<< lN (5 * i))) (5 * j + b) = ((tm_L x (5 * j + b) && !(decide (5 * i ≤ 5 * j + b) && tm_L 31 (5 * j + b - 5 * i))) || (decide (5 * i ≤ 5 * j + b) && tm_L (lN v) (5 * j + b - 5 * i))) := by
    intro h
    rw [← tm_Lshl (show 5 * i < 64 by omega) 31 (show 5 * j + b < 64 by omega) , ← tm_Lshl (show 5 * i < 64 by omega) (lN v) (show 5 * j + b < 64 by omega)]
    have m1 := tm_Lm1 (5 * j + b) (by omega)
    unfold tm_L at m1 ⊢
    rw [Int64.toBitVec_or, BitVec.getLsbD_or, Int64.toBitVec_and, BitVec.getLsbD_and, Int64.toBitVec_xor, BitVec.getLsbD_xor, m1, Bool.xor_true]
  by_cases h : b < 5
  · rw [key h, decide_eq_true h, Bool.true_and]
    by_cases e : j = i
    · subst e
      rw [if_pos rfl, tm_bnI hb, decide_eq_true (show 5 * j ≤ 5 * j + b by omega), show 5 * j + b - 5 * j = b by omega, tm_L31 b (by omega), decide_eq_true h, tm_LlN (by omega)]
      simp
    · rw [if_neg e, tm_fl_b hj hb, decide_eq_true h, Bool.true_and]
      by_cases g : 5 * i ≤ 5 * j + b
      · rw [decide_eq_true g, tm_L31 _ (by omega), decide_eq_false (show ¬ 5 * j + b - 5 * i < 5 by omega), tm_LlN (by omega), tm_tb hv (by omega)]
        simp
      · rw [decide_eq_false g]
        simp
  · rw [decide_eq_false h, Bool.false_and]
    by_cases e : j = i
    · rw [if_pos e, tm_bnI hb, tm_tb hv (by omega)]
    · rw [if_neg e, tm_fl_b hj hb, decide_eq_false h, Bool.false_and]
section
variable {post : Int32 → St1 → Prop} {tc pr us ud kn cs : Int32} {a1 a2 a3 a4 a5 a6 a7 : Nat → Int32} {s e w : Nat → Nat} {k : Nat}
theorem tm_pr53 {J : Int32 → Int32 → Int32 → Int32 → Int32 → Int32 → Int32 → Int32 → (Nat → Int32) → (Nat → Int32) → (Nat → Int32) → (Nat → Int32) → (Nat → Int32) → (Nat → Int32) → (Nat → Int32) → Prop} {x1 : Int64} {x3 x4 x6 x7 z0 : Int32} {j : Nat}
    (hz : (z0 = 1 ∧ ¬ x7 < 0 ∧ ¬ x6 < x7 ∧ J (x4 + x6) (nI (j + 1)) tc pr us ud kn cs a1 a2 a3 a4 a5 a6 a7) ∨ (z0 = 0 ∧ (x7 < 0 ∨ (¬ x7 < 0 ∧ x6 < x7)) ∧ J x4 (nI (j + 1)) tc pr us ud kn cs a1 a2 a3 a4 a5 a6 a7)) :
    wL_prices_53 post J x1 x3 x4 (nI j) x6 x7 z0 tc pr us ud kn cs a1 a2 a3 a4 a5 a6 a7 := by
  rcases hz with ⟨e1, h1, h2, h3⟩ | ⟨e1, h1, h2⟩
  · exact br_f (by rw [e1]; decide) (br_f h1 (br_f h2 (br_t e1 (nm_r (nI_1 j) h3))))
  · refine br_t e1 ?_
    rcases h1 with h1 | ⟨h1, h3⟩
    · exact br_t h1 (nm_r (nI_1 j) h2)
    · exact br_f h1 (br_t h3 (br_t e1 (nm_r (nI_1 j) h2)))
theorem tm_Lprices {x : Int64} (hB : tm_B s e w pr a1 a2 a3) (htc : tc = nI k) (hk : k ≤ 40) (hK : kn ≠ 0 → tm_Op s e w (tm_b pr) k cs) (hx : ∀ j, j < 8 → tm_b pr j = true → tm_fl x j = nI (w j))
    (H : ∀ us' ud' kn' cs' b4 b5 b6 b7, (kn' ≠ 0 → tm_Op s e w (tm_b pr) k cs') → post 1 (tc, pr, us', ud', kn', cs', a1, a2, a3, b4, b5, b6, b7)) :
    wpL_prices post (tc, pr, us, ud, kn, cs, a1, a2, a3, a4, a5, a6, a7) x := by
  have hw : ∀ j, j < 8 → w j ≤ 20 := fun j hj => (hB.2.1 j hj).2.2.2.2.2
  unfold wpL_prices
  refine tm_chosen hB htc (by omega) hK (fun us1 ud1 kn1 c b4 b5 b6 b7 g1 hc => ?_)
  refine pk_loop (fun n i (t : Int32 × Int32 × Int32 × (Nat → Int32) × (Nat → Int32) × (Nat → Int32) × (Nat → Int32)) => wL_prices_11 post x c n t.1 (nI i) tc pr t.2.1 t.2.2.1 kn1 c a1 a2 a3 t.2.2.2.1 t.2.2.2.2.1 t.2.2.2.2.2.1 t.2.2.2.2.2.2)
    (fun i t => t.1.toInt = tm_S (tm_b c) (fun j => (w j : Int)) i) 8 0 (0, us1, ud1, b4, b5, b6, b7) (by omega) rfl (fun n t h => ?_) (fun n j t hj h hw' => ?_)
  · refine pk_le 8 8 (fun _ => tm_total hB htc (by omega) (fun _ => hc) (fun r us' ud' kn' cs' c4 c5 c6 c7 h1 h2 h3 => br_t ?_ (H _ _ _ _ _ _ _ _ (fun _ => h2)))) (fun z => absurd z (by omega))
    refine Int32.toInt_inj.mp ?_
    have e1 := tm_M_eq w (tm_b c)
    have e2 := tm_G_b (tm_b c)
    have e3 := tm_Op_eq h2 hc
    have e4 : tm_W w (tm_b c) = tm_S (tm_b c) (fun j => (w j : Int)) 8 := rfl
    omega
  · refine pk_le 8 j (fun z => absurd z (by omega)) (fun _ => nm_e ?_)
    have es : tm_S (tm_b c) (fun j => (w j : Int)) (j + 1) = tm_S (tm_b c) (fun j => (w j : Int)) j + (if tm_b c j = true then (w j : Int) else 0) := rfl
    have n1 : 0 ≤ tm_S (tm_b c) (fun j => (w j : Int)) j := tm_S_nn (fun j _ => by omega)
    have n2 := tm_S_ub (p := tm_b c) (f := fun j => (w j : Int)) (B := 20) (by omega) (n := j) (fun i hi => by
      have := hw i (by omega)
      omega)
    have keep : tm_b c j = false → t.1.toInt = tm_S (tm_b c) (fun j => (w j : Int)) (j + 1) := by
      intro z
      rw [es, z, if_neg (by decide), h]
      omega
    have cb : tm_b c j = false ∨ tm_b c j = true := by
      cases tm_b c j
      · exact Or.inl rfl
      · exact Or.inr rfl
    refine tm_price hj hB htc (by omega) (fun z us' ud' c4 c5 c6 c7 => ?_) (fun z p us' ud' c4 c5 c6 c7 p1 p2 p3 => ?_)
    · have cf : tm_b c j = false := by
        rcases cb with g | g
        · exact g
        · have := hc.2.1.1 j hj g
          rw [z] at this
          exact absurd this (by decide)
      refine ek_if (tm_bit1 c j (by omega)) (fun y => ?_) (fun _ => tm_pr53 (Or.inr ⟨rfl, Or.inl (by decide), hw' (t.1, us', ud', c4, c5, c6, c7) (keep cf)⟩))
      rw [cf] at y
      exact absurd y (by decide)
    · have hf : tm_fl x j = nI (w j) := hx j hj z
      have hwj := hw j hj
      have hp := p3 c hc
      refine ek_if (tm_bit1 c j (by omega)) (fun y => tm_pr53 (Or.inl ⟨rfl, nI_pos (by omega), ?_, hw' (t.1 + tm_fl x j, us', ud', c4, c5, c6, c7) ?_⟩)) (fun y => tm_pr53 (Or.inr ⟨rfl, Or.inr ⟨nI_pos (by omega), ?_⟩, hw' (t.1, us', ud', c4, c5, c6, c7) (keep ?_)⟩))
      · show ¬ tm_fl x j < nI p
        rw [hf]
        exact nI_nlt (hp.mp y) (by omega)
      · have e1 : (tm_fl x j).toInt = (w j : Int) := by rw [hf, nI_toInt (by omega)]
        show (t.1 + tm_fl x j).toInt = _
        rw [es, if_pos y, tm_addI (by rw [h, e1]; omega) (by rw [h, e1]; omega), h, e1]
      · show tm_fl x j < nI p
        rw [hf]
        refine nI_lt ?_ (by omega)
        rcases Nat.lt_or_ge (w j) p with g | g
        · exact g
        · exact absurd (hp.mpr g) y
      · rcases cb with g | g
        · exact g
        · exact absurd g y
theorem tm_busy {t : Nat} (ht : t < 16) (hB : tm_B s e w pr a1 a2 a3) (htc : tc = nI k) (hk : k ≤ 40) (hK : kn ≠ 0 → tm_Op s e w (tm_b pr) k cs)
    (H : ∀ (r : Int32) us' ud' kn' cs' b4 b5 b6 b7, (kn' ≠ 0 → tm_Op s e w (tm_b pr) k cs') → 0 ≤ r.toInt → r.toInt ≤ (k : Int) → post r (tc, pr, us', ud', kn', cs', a1, a2, a3, b4, b5, b6, b7)) :
    wpX_busy post (tc, pr, us, ud, kn, cs, a1, a2, a3, a4, a5, a6, a7) (nI t) := by
  unfold wpX_busy
  refine pk_lt t 0 (fun z => absurd z (by omega)) (fun _ => pk_lt t 16 (fun _ => ?_) (fun z => absurd z (by omega)))
  refine tm_choose hB htc (by omega) hK (fun us' ud' kn' cs' b4 b5 b6 b7 h1 h2 => ?_)
  refine tm_crowd hB rfl (by omega) (fun r hr => H _ _ _ _ _ _ _ _ _ (fun _ => h2) ?_ ?_)
  · rw [hr]
    exact tm_C_nn
  · rw [hr]
    exact h2.2.1.2 t ht
theorem tm_tracksFor {post : Int32 → Prop} {p0 : Int32} (hB : tm_B s e w pr a1 a2 a3) (H : ∀ r : Int32, (∀ k : Nat, r.toInt ≤ k ↔ ∀ i, i < 16 → tm_C s e (tm_b (p0 &&& pr)) i ≤ k) → post r) : wpX_tracksFor post (tc, pr, us, ud, kn, cs, a1, a2, a3, a4, a5, a6, a7) p0 := by
  unfold wpX_tracksFor
  exact tm_greatest hB (fun r hr => H r hr)
theorem tm_Lbusy {x : Int32} (hB : tm_B s e w pr a1 a2 a3) (htc : tc = nI k) (hk : k ≤ 40) (hK : kn ≠ 0 → tm_Op s e w (tm_b pr) k cs)
    (H : ∀ us' ud' kn' cs' b4 b5 b6 b7, (kn' ≠ 0 → tm_Op s e w (tm_b pr) k cs') → post 1 (tc, pr, us', ud', kn', cs', a1, a2, a3, b4, b5, b6, b7)) :
    wpL_busy post (tc, pr, us, ud, kn, cs, a1, a2, a3, a4, a5, a6, a7) x := by
  unfold wpL_busy
  have htI : tc.toInt = k := by rw [htc, nI_toInt (by omega)]
  refine pk_loop (fun n i (t : Int32 × Int32 × Int32 × Int32 × (Nat → Int32) × (Nat → Int32) × (Nat → Int32) × (Nat → Int32)) => wL_busy_4 post x n 1 (nI i) tc pr t.1 t.2.1 t.2.2.1 t.2.2.2.1 a1 a2 a3 t.2.2.2.2.1 t.2.2.2.2.2.1 t.2.2.2.2.2.2.1 t.2.2.2.2.2.2.2)
    (fun i t => t.2.2.1 ≠ 0 → tm_Op s e w (tm_b pr) k t.2.2.2.1) 16 0 (us, ud, kn, cs, a4, a5, a6, a7) (by omega) hK (fun n t h => ?_) (fun n i t hi h hw' => ?_)
  · refine pk_le 16 16 (fun _ => tm_jobs (nm_e (tm_tracksFor hB (fun r hr => ?_)))) (fun z => absurd z (by omega))
    have hlt : tc < r ↔ ¬ ∀ i, i < 16 → tm_C s e (tm_b (x &&& pr)) i ≤ k := by
      rw [Int32.lt_iff_toInt_lt, htI, ← hr k]
      omega
    have hs : ((x &&& pr) &&& (pr ^^^ (-1))) = 0 := by
      rw [tm_sub0]
      intro i _ z
      rw [tm_band] at z
      cases y : tm_b pr i
      · rw [y] at z
        exact absurd z (by simp)
      · rfl
    refine tm_fits hB htc (by omega) (fun z1 z2 => br_f (by decide) (tm_tracks (br_f (fun z => (hlt.mp z) z2) (br_t rfl (H _ _ _ _ _ _ _ _ h))))) (fun z => br_f (by decide) (tm_tracks (br_t (hlt.mpr (fun g => z ⟨hs, g⟩)) (br_t rfl (H _ _ _ _ _ _ _ _ h)))))
  · refine pk_le 16 i (fun z => absurd z (by omega)) (fun _ => tm_busy hi hB htc hk h (fun r us' ud' kn' cs' b4 b5 b6 b7 h1 h2 h3 => ?_))
    refine br_f (by decide) (br_f ?_ (tm_tracks (br_f ?_ (nm_r (nI_1 i) (hw' (us', ud', kn', cs', b4, b5, b6, b7) h1)))))
    · rw [Int32.lt_iff_toInt_lt]
      show ¬ r.toInt < 0
      omega
    · rw [Int32.lt_iff_toInt_lt, htI]
      omega
end
end
section
/-! ===== a turn ===== -/
/-- the state at the law's level -/
def tm_St (s e w : Nat → Nat) (k : Nat) (tc pr kn cs : Int32) (a1 a2 a3 : Nat → Int32) : Prop :=
  tm_B s e w pr a1 a2 a3 ∧ tc = nI k ∧ k ≤ 4 ∧ (kn ≠ 0 → tm_Op s e w (tm_b pr) k cs)
/-- what a turn does to the worths -/
def tm_Tn (wc jj v : Nat) (pr : Int32) (w : Nat → Nat) (pr' : Int32) (w' : Nat → Nat) : Prop :=
  ∀ j, j < 8 → tm_b pr' j = true → (tm_b pr j = false → w' j = v) ∧ (tm_b pr j = true → (11 ≤ wc ∧ wc < 13 ∧ j = jj) → w' j = v) ∧ (tm_b pr j = true → ¬ (11 ≤ wc ∧ wc < 13 ∧ j = jj) → w' j = w j)
theorem tm_Tn_id {wc jj v : Nat} {pr : Int32} {w : Nat → Nat} (h : 11 ≤ wc → wc < 13 → tm_b pr jj = false) : tm_Tn wc jj v pr w pr w := by
  intro j hj hp
  refine ⟨fun z => ?_, fun z y => ?_, fun _ _ => rfl⟩
  · rw [hp] at z
    exact absurd z (by decide)
  · rw [y.2.2, h y.1 y.2.1] at z
    exact absurd z (by decide)
section
variable {tc pr us ud kn cs : Int32} {a1 a2 a3 a4 a5 a6 a7 : Nat → Int32} {s e w : Nat → Nat} {k : Nat}
theorem tm_bring {post : Int32 → St1 → Prop} {x y v : Nat} (h1 : x < y) (h2 : y ≤ 16) (h3 : 1 ≤ v) (h4 : v ≤ 20)
    (H0 : ∀ r, post r (tc, pr, us, ud, kn, cs, a1, a2, a3, a4, a5, a6, a7))
    (H1 : ∀ i, i < 8 → tm_b pr i = false → post (nI i) (tc, pr ||| ((1 : Int32) <<< (nI i &&& 31)), us, ud, 0, cs, upd a1 i (nI x), upd a2 i (nI y), upd a3 i (nI v), a4, a5, a6, a7)) :
    wpX_bring post (tc, pr, us, ud, kn, cs, a1, a2, a3, a4, a5, a6, a7) (nI x) (nI y) (nI v) := by
  unfold wpX_bring
  refine pk_lt x 0 (fun z => absurd z (by omega)) (fun _ => pk_lt 16 y (fun z => absurd z (by omega)) (fun _ => pk_le y x (fun z => absurd z (by omega)) (fun _ => pk_lt v 1 (fun z => absurd z (by omega)) (fun _ => pk_le v 20 (fun _ => ?_) (fun z => absurd z (by omega))))))
  refine pk_loop (σ := Unit) (fun n i _ => wX_bring_31 post (nI x) (nI y) (nI v) tc pr us ud kn cs a1 a2 a3 a4 a5 a6 a7 n (nI i)) (fun _ _ => True) 8 0 () (by omega) trivial (fun n _ _ => pk_le 8 8 (fun _ => H0 _) (fun z => absurd z (by omega))) (fun n i _ hi _ hw => ?_)
  refine pk_le 8 i (fun z => absurd z (by omega)) (fun _ => tm_has hi (fun z => br_t rfl ?_) (fun z => br_f (by decide) (nm_r (nI_1 i) (hw () trivial))))
  have i0 : vp_in (nI i) 8 := vp_in_nI hi (by omega)
  rw [nI_clamp (show i < 2 ^ 31 by omega), tm_narN x (by omega), tm_narN y (by omega), tm_narN v (by omega)]
  exact nm_e ⟨i0, nm_e ⟨i0, nm_e ⟨i0, nm_e (H1 i hi z)⟩⟩⟩
theorem tm_take {post : Int32 → St1 → Prop} {i : Nat} (hi : i < 8)
    (H0 : ∀ r, post r (tc, pr, us, ud, kn, cs, a1, a2, a3, a4, a5, a6, a7))
    (H1 : ∀ r, post r (tc, pr &&& (((1 : Int32) <<< (nI i &&& 31)) ^^^ (-1)), us, ud, 0, cs, a1, a2, a3, a4, a5, a6, a7)) :
    wpX_take post (tc, pr, us, ud, kn, cs, a1, a2, a3, a4, a5, a6, a7) (nI i) := by
  unfold wpX_take
  exact tm_has hi (fun z => br_t rfl (H0 _)) (fun z => br_f (by decide) (nm_e (H1 _)))
theorem tm_revalue {post : Int32 → St1 → Prop} {i v : Nat} (hi : i < 8) (h3 : 1 ≤ v) (h4 : v ≤ 20)
    (H0 : tm_b pr i = false → ∀ r, post r (tc, pr, us, ud, kn, cs, a1, a2, a3, a4, a5, a6, a7))
    (H1 : tm_b pr i = true → ∀ r, post r (tc, pr, us, ud, 0, cs, a1, a2, upd a3 i (nI v), a4, a5, a6, a7)) :
    wpX_revalue post (tc, pr, us, ud, kn, cs, a1, a2, a3, a4, a5, a6, a7) (nI i) (nI v) := by
  unfold wpX_revalue
  refine tm_has hi (fun z => br_t rfl (H0 z _)) (fun z => br_f (by decide) (pk_lt v 1 (fun y => absurd y (by omega)) (fun _ => pk_le v 20 (fun _ => ?_) (fun y => absurd y (by omega)))))
  rw [nI_clamp (show i < 2 ^ 31 by omega), tm_narN v (by omega)]
  exact ⟨vp_in_nI hi (by omega), nm_e (H1 z _)⟩
theorem tm_setTracks {post : Int32 → St1 → Prop} {q : Nat} (hq : q ≤ 4)
    (H1 : ∀ r, post r (nI q, pr, us, ud, 0, cs, a1, a2, a3, a4, a5, a6, a7)) :
    wpX_setTracks post (tc, pr, us, ud, kn, cs, a1, a2, a3, a4, a5, a6, a7) (nI q) := by
  unfold wpX_setTracks
  exact pk_lt q 0 (fun z => absurd z (by omega)) (fun _ => pk_le q 4 (fun _ => H1 _) (fun z => absurd z (by omega)))
theorem tm_turn57 {post : St1 → Prop} {wc jj x y v : Nat} (hw : wc < 9) (h1 : x < y) (h2 : y ≤ 16) (h3 : 1 ≤ v) (h4 : v ≤ 20) (hS : tm_St s e w k tc pr kn cs a1 a2 a3)
    (H : ∀ tc' pr' kn' cs' b1 b2 b3 s' e' w' k', tm_St s' e' w' k' tc' pr' kn' cs' b1 b2 b3 → tm_Tn wc jj v pr w pr' w' → post (tc', pr', us, ud, kn', cs', b1, b2, b3, a4, a5, a6, a7)) :
    wL_turn_57 post (nI v) (nI y) (nI x) tc pr us ud kn cs a1 a2 a3 a4 a5 a6 a7 := by
  unfold wL_turn_57
  refine tm_bring h1 h2 h3 h4 (fun r => H _ _ _ _ _ _ _ _ _ _ _ hS (tm_Tn_id (fun z => absurd z (by omega)))) (fun i hi hp => ?_)
  obtain ⟨⟨b1, b2, b3⟩, htc, hk, _⟩ := hS
  have bit : ∀ j, j < 8 → tm_b (pr ||| ((1 : Int32) <<< (nI i &&& 31))) j = (tm_b pr j || decide (j = i)) := fun j hj => tm_setb (by omega) (by omega)
  refine H _ _ _ _ _ _ _ (fun j => if j = i then x else s j) (fun j => if j = i then y else e j) (fun j => if j = i then v else w j) k ⟨⟨tm_sm_set b1 hi, fun j hj => ?_, fun j hj z => ?_⟩, htc, hk, fun z => absurd rfl z⟩ (fun j hj z => ?_)
  · dsimp only
    by_cases ej : j = i
    · rw [if_pos ej, if_pos ej, if_pos ej, ej]
      exact ⟨pk_us, pk_us, pk_us, by omega, by omega, by omega⟩
    · rw [if_neg ej, if_neg ej, if_neg ej, pk_un ej, pk_un ej, pk_un ej]
      exact b2 j hj
  · dsimp only
    by_cases ej : j = i
    · rw [if_pos ej, if_pos ej, if_pos ej]
      exact ⟨by omega, by omega⟩
    · rw [bit j hj, decide_eq_false ej, Bool.or_false] at z
      rw [if_neg ej, if_neg ej, if_neg ej]
      exact b3 j hj z
  · dsimp only
    by_cases ej : j = i
    · rw [if_pos ej]
      refine ⟨fun _ => rfl, fun _ y => absurd y.1 (by omega), fun y => ?_⟩
      rw [ej, hp] at y
      exact absurd y (by decide)
    · rw [if_neg ej]
      rw [bit j hj, decide_eq_false ej, Bool.or_false] at z
      refine ⟨fun y => ?_, fun _ y => absurd y.1 (by omega), fun _ _ => rfl⟩
      rw [z] at y
      exact absurd y (by decide)
theorem tm_turn {post : St1 → Prop} {wc jj v : Nat} {xx yy : Int32} (hwc : wc < 16) (hjj : jj < 8) (hj : ((yy >>> ((11 : Int32) &&& 31)) &&& 7) = nI jj) (hv : 1 + (((yy >>> ((3 : Int32) &&& 31)) &&& 255) - ((yy >>> ((3 : Int32) &&& 31)) &&& 255) / 20 * 20) = nI v) (h3 : 1 ≤ v) (h4 : v ≤ 20)
    (hS : tm_St s e w k tc pr kn cs a1 a2 a3)
    (H : ∀ tc' pr' kn' cs' b1 b2 b3 s' e' w' k', tm_St s' e' w' k' tc' pr' kn' cs' b1 b2 b3 → tm_Tn wc jj v pr w pr' w' → post (tc', pr', us, ud, kn', cs', b1, b2, b3, a4, a5, a6, a7)) :
    wpL_turn post (tc, pr, us, ud, kn, cs, a1, a2, a3, a4, a5, a6, a7) (nI wc) xx yy := by
  unfold wpL_turn
  obtain ⟨m, hm, em⟩ := pk_andE xx (m := 65535) 16 (by decide)
  obtain ⟨q, hq, eq⟩ := pk_andE yy (m := 7) 3 (by decide)
  obtain ⟨q3, hq3, eq3⟩ := pk_andE yy (m := 3) 2 (by decide)
  have ex : (xx &&& 65535) - (xx &&& 65535) / 16 * 16 = nI (m % 16) := by
    rw [em]
    exact pk_rem (d := 16) (by omega) (by omega) (by omega)
  refine ⟨by decide, nm_r ex (nm_r (e' := nI (m % 16 + 1 + q)) (by rw [eq, nI_1, nI_add]) ⟨by decide, nm_r hv ?_⟩)⟩
  rw [hj, eq3]
  have hm16 : m % 16 < 16 := Nat.mod_lt _ (by omega)
  refine pk_le 9 wc (fun z9 => pk_le 11 wc (fun z11 => pk_le 13 wc (fun z13 => ?_) (fun z13 => ?_)) (fun z11 => ?_)) (fun z9 => pk_le (m % 16 + 1 + q) 16 (fun z => ?_) (fun z => ?_))
  · obtain ⟨b, htc, hk, hK⟩ := hS
    exact tm_setTracks (by omega) (fun r => H _ _ _ _ _ _ _ s e w q3 ⟨b, rfl, by omega, fun z => absurd rfl z⟩ (tm_Tn_id (fun _ z => absurd z (by omega))))
  · refine tm_revalue hjj h3 h4 (fun hp r => H _ _ _ _ _ _ _ _ _ _ _ hS (tm_Tn_id (fun _ _ => hp))) (fun hp r => ?_)
    obtain ⟨⟨b1, b2, b3⟩, htc, hk, _⟩ := hS
    refine H _ _ _ _ _ _ _ s e (fun j => if j = jj then v else w j) k ⟨⟨b1, fun j hj => ?_, fun j hj z => ?_⟩, htc, hk, fun z => absurd rfl z⟩ (fun j hj z => ?_)
    · dsimp only
      obtain ⟨c1, c2, c3, c4, c5, c6⟩ := b2 j hj
      by_cases ej : j = jj
      · rw [if_pos ej]
        exact ⟨c1, c2, by rw [ej, pk_us], c4, c5, h4⟩
      · rw [if_neg ej, pk_un ej]
        exact ⟨c1, c2, c3, c4, c5, c6⟩
    · dsimp only
      by_cases ej : j = jj
      · rw [if_pos ej]
        exact ⟨(b3 j hj z).1, h3⟩
      · rw [if_neg ej]
        exact b3 j hj z
    · dsimp only
      refine ⟨fun y => ?_, fun _ y => by rw [if_pos y.2.2], fun _ y => ?_⟩
      · rw [z] at y
        exact absurd y (by decide)
      · rw [if_neg (fun ej => y ⟨z11, z13, ej⟩)]
  · refine tm_take hjj (fun r => H _ _ _ _ _ _ _ _ _ _ _ hS (tm_Tn_id (fun z => absurd z (by omega)))) (fun r => ?_)
    obtain ⟨⟨b1, b2, b3⟩, htc, hk, _⟩ := hS
    have keep : ∀ j, j < 8 → tm_b (pr &&& (((1 : Int32) <<< (nI jj &&& 31)) ^^^ (-1))) j = true → tm_b pr j = true := by
      intro j hj z
      rw [tm_clrb (by omega) (by omega)] at z
      cases y : tm_b pr j
      · rw [y] at z
        exact absurd z (by simp)
      · rfl
    refine H _ _ _ _ _ _ _ s e w k ⟨⟨tm_sm_clr b1 hjj, b2, fun j hj z => b3 j hj (keep j hj z)⟩, htc, hk, fun z => absurd rfl z⟩ (fun j hj z => ⟨fun y => ?_, fun _ y => absurd y.1 (by omega), fun _ _ => rfl⟩)
    rw [keep j hj z] at y
    exact absurd y (by decide)
  · exact tm_turn57 z9 (by omega) z h3 h4 hS H
  · exact tm_turn57 (y := 16) z9 (by omega) (by omega) h3 h4 hS H
end
end
section
/-! ===== the law ===== -/
section
variable {post : Int32 → Prop} {L : Nat} {xs : Nat → Int32} {tc pr us ud kn cs : Int32} {a1 a2 a3 a4 a5 a6 a7 : Nat → Int32} {s e w : Nat → Nat} {k : Nat} {kc ks : Nat}
theorem tm_law144 {J : Int64 → Int32 → Int32 → Int32 → Int32 → Int32 → Int32 → Int32 → (Nat → Int32) → (Nat → Int32) → (Nat → Int32) → (Nat → Int32) → (Nat → Int32) → (Nat → Int32) → (Nat → Int32) → Prop} {x2 : Int64} {x6 x8 x9 x10 x11 : Int32} {i v jj : Nat}
    (hS : tm_St s e w k tc pr kn cs a1 a2 a3) (h8 : x8 = nI v) (hv : v ≤ 20) (h10 : x10 = nI jj) (hjj : jj < 8)
    (hA : ∀ j, j < 8 → tm_b pr j = true → (tm_b x9 j = true ∨ (x11 ≠ 0 ∧ j = jj)) → w j = v) (hC : ∀ j, j < 8 → tm_b pr j = true → ¬ (tm_b x9 j = true ∨ (x11 ≠ 0 ∧ j = jj)) → tm_fl x2 j = nI (w j))
    (HJ : ∀ x us' ud' kn' cs' b4 b5 b6 b7, (kn' ≠ 0 → tm_Op s e w (tm_b pr) k cs') → (∀ j, j < 8 → tm_b pr j = true → tm_fl x j = nI (w j)) → J x (nI (i + 3)) tc pr us' ud' kn' cs' a1 a2 a3 b4 b5 b6 b7) :
    ∃ n, wL_law_144 post L xs J (nI i) x6 x8 x9 x10 x11 kc ks tc pr us ud kn cs a1 a2 a3 a4 a5 a6 a7 n x2 0 := by
  obtain ⟨hB, htc, hk, hK⟩ := hS
  refine pk_loop (fun n m (x : Int64) => wL_law_144 post L xs J (nI i) x6 x8 x9 x10 x11 kc ks tc pr us ud kn cs a1 a2 a3 a4 a5 a6 a7 n x (nI m))
    (fun m x => ∀ j, j < 8 → tm_b pr j = true → (j < m ∨ ¬ (tm_b x9 j = true ∨ (x11 ≠ 0 ∧ j = jj))) → tm_fl x j = nI (w j)) 8 0 x2 (by omega) (fun j hj hp z => hC j hj hp (z.resolve_left (by omega))) (fun n x h => ?_) (fun n m x hm h hw => ?_)
  · refine pk_le 8 8 (fun _ => ?_) (fun z => absurd z (by omega))
    have hf : ∀ j, j < 8 → tm_b pr j = true → tm_fl x j = nI (w j) := fun j hj hp => h j hj hp (Or.inl hj)
    refine tm_Lchosen hB htc (by omega) hK (fun us1 ud1 kn1 cs1 b4 b5 b6 b7 k1 => br_f (by decide) ?_)
    refine tm_Lprices hB htc (by omega) k1 hf (fun us2 ud2 kn2 cs2 c4 c5 c6 c7 k2 => br_f (by decide) ?_)
    refine tm_Lbusy hB htc (by omega) k2 (fun us3 ud3 kn3 cs3 d4 d5 d6 d7 k3 => br_f (by decide) ?_)
    exact nm_r (nI_add i 3) (HJ _ _ _ _ _ _ _ _ _ k3 hf)
  · have put : (tm_b x9 m = true ∨ (x11 ≠ 0 ∧ m = jj)) → wL_law_174 post L xs J (wL_law_144 post L xs J (nI i) x6 x8 x9 x10 x11 kc ks tc pr us ud kn cs a1 a2 a3 a4 a5 a6 a7 n) x (nI i) x6 x8 x9 x10 x11 (nI m) kc ks tc pr us ud kn cs a1 a2 a3 a4 a5 a6 a7 := by
      intro z
      refine br_f (by decide) (nm_e (nm_r (nI_1 m) (hw _ (fun j hj hp y => ?_))))
      rw [h8, tm_fl_put hm hj (by omega)]
      by_cases ej : j = m
      · rw [if_pos ej, hA j hj hp (by rw [ej]; exact z)]
      · rw [if_neg ej]
        exact h j hj hp (y.imp (fun g => by omega) (fun g => g))
    have keep : ¬ (tm_b x9 m = true ∨ (x11 ≠ 0 ∧ m = jj)) → wL_law_178 post L xs J (wL_law_144 post L xs J (nI i) x6 x8 x9 x10 x11 kc ks tc pr us ud kn cs a1 a2 a3 a4 a5 a6 a7 n) x (nI i) x6 x8 x9 x10 x11 (nI m) kc ks tc pr us ud kn cs a1 a2 a3 a4 a5 a6 a7 := by
      intro z
      refine br_t rfl (nm_r (nI_1 m) (hw _ (fun j hj hp y => ?_)))
      by_cases ej : j = m
      · exact h j hj hp (Or.inr (by rw [ej]; exact z))
      · exact h j hj hp (y.imp (fun g => by omega) (fun g => g))
    refine pk_le 8 m (fun z => absurd z (by omega)) (fun _ => ek_if (tm_bit1 x9 m (by omega)) (fun z => put (Or.inl z)) (fun z => br_c (fun y => keep (fun g => ?_)) (fun y => pk_eq m jj (fun g => put (Or.inr ⟨y, g⟩)) (fun g => keep (fun g' => ?_)) rfl h10)))
    · rcases g with g | g
      · exact z g
      · exact g.1 y
    · rcases g' with g' | g'
      · exact z g'
      · exact g g'.2
theorem tm_law27 (hL : L ≤ 260) (H : post 1) : ∀ (f i : Nat) (x2 : Int64) (tc pr us ud kn cs : Int32) (a1 a2 a3 a4 a5 a6 a7 : Nat → Int32) (s e w : Nat → Nat) (k : Nat), L - i < f → i ≤ 300 → tm_St s e w k tc pr kn cs a1 a2 a3 → (∀ j, j < 8 → tm_b pr j = true → tm_fl x2 j = nI (w j)) → wL_law_27 post L xs kc ks f x2 (nI i) tc pr us ud kn cs a1 a2 a3 a4 a5 a6 a7 := by
  intro f
  induction f with
  | zero => exact fun i x2 tc pr us ud kn cs a1 a2 a3 a4 a5 a6 a7 s e w k h => absurd h (by omega)
  | succ f ih =>
    intro i x2 tc pr us ud kn cs a1 a2 a3 a4 a5 a6 a7 s e w k hf hi hS hx
    refine pk_le L (i + 2) (fun _ => H) (fun z => ?_) rfl (nI_add i 2)
    obtain ⟨wc, hwc, ewc⟩ := pk_andE (xs (nI i).toNatClampNeg) (m := 15) 4 (by decide)
    refine ⟨pk_in i L (by omega), nm_r ewc ⟨pk_in (i + 2) L z (nI_add i 2), fun y ey => tm_jobs ⟨pk_in (i + 1) L (by omega) (nI_add i 1), ?_⟩⟩⟩
    obtain ⟨jj, hjj, ejj⟩ := pk_andE (y >>> ((11 : Int32) &&& 31)) (m := 7) 3 (by decide)
    obtain ⟨m, hm, em⟩ := pk_andE (y >>> ((3 : Int32) &&& 31)) (m := 255) 8 (by decide)
    have hm20 : m % 20 < 20 := Nat.mod_lt _ (by omega)
    have ev : 1 + (((y >>> ((3 : Int32) &&& 31)) &&& 255) - ((y >>> ((3 : Int32) &&& 31)) &&& 255) / 20 * 20) = nI (1 + m % 20) := by
      have er : nI m - nI m / 20 * 20 = nI (m % 20) := pk_rem (a := m) (d := 20) (by omega) (by omega) (by omega)
      rw [em, er]
      exact nI_add 1 _
    refine tm_turn hwc hjj ejj ev (by omega) (by omega) hS (fun tc' pr' kn' cs' b1 b2 b3 s' e' w' k' hS' hT => ⟨by decide, nm_r ev (tm_jobs (nm_e (nm_r ejj ?_)))⟩)
    have fr : ∀ j, j < 8 → tm_b (pr' &&& (pr ^^^ (-1))) j = (tm_b pr' j && !tm_b pr j) := fun j hj => by rw [tm_band, tm_not pr (by omega)]
    have go : ∀ x11 : Int32, (x11 ≠ 0 ↔ (11 ≤ wc ∧ wc < 13 ∧ tm_b pr jj = true)) → ∃ n, wL_law_144 post L xs (wL_law_27 post L xs kc ks f) (nI i) y (nI (1 + m % 20)) (pr' &&& (pr ^^^ (-1))) (nI jj) x11 kc ks tc' pr' us ud kn' cs' b1 b2 b3 a4 a5 a6 a7 n x2 0 := by
      intro x11 hre
      refine tm_law144 hS' rfl (by omega) rfl hjj (fun j hj hp q => ?_) (fun j hj hp q => ?_) (fun x us' ud' kn'' cs'' c4 c5 c6 c7 g1 g2 => ih (i + 3) x tc' pr' us' ud' kn'' cs'' b1 b2 b3 c4 c5 c6 c7 s' e' w' k' (by omega) (by omega) ⟨hS'.1, hS'.2.1, hS'.2.2.1, g1⟩ g2)
      · obtain ⟨t1, t2, t3⟩ := hT j hj hp
        rw [fr j hj, hp] at q
        cases pj : tm_b pr j
        · exact t1 pj
        · rcases q with q | ⟨q1, q2⟩
          · rw [pj] at q
            exact absurd q (by decide)
          · have := hre.mp q1
            exact t2 pj ⟨this.1, this.2.1, q2⟩
      · obtain ⟨t1, t2, t3⟩ := hT j hj hp
        rw [fr j hj, hp] at q
        cases pj : tm_b pr j
        · exact absurd (Or.inl (by rw [pj]; rfl)) q
        · rw [t3 pj (fun g => q (Or.inr ⟨hre.mpr ⟨g.1, g.2.1, by rw [← g.2.2]; exact pj⟩, g.2.2⟩))]
          exact hx j hj pj
    refine pk_lt wc 11 (fun q => go 0 ⟨fun g => absurd rfl g, fun g => absurd g.1 (by omega)⟩) (fun q => pk_le 13 wc (fun q' => go 0 ⟨fun g => absurd rfl g, fun g => absurd g.2.1 (by omega)⟩) (fun q' => ek_if (tm_bit1 pr jj (by omega)) (fun q'' => go 1 ⟨fun _ => ⟨q, q', q''⟩, fun _ => by decide⟩) (fun q'' => go 0 ⟨fun g => absurd rfl g, fun g => absurd g.2.2 q''⟩)))
theorem tm_law18 (hL : L ≤ 260) (H : post 1) {q : Nat} (hq : q ≤ 4) {z0 : Int32} (ez : z0 = nI q) : wL_law_18 post L xs z0 1 13 0 0 0 0 0 0 := by
  subst ez
  refine ⟨7, 82, by omega, by omega, by omega, by omega, by omega, by omega, by omega, by omega, by omega, by omega, by omega, by omega, by omega, by omega, by omega, by omega, ?_⟩
  refine br_t (nI_pos' (by omega)) (pk_le q 4 (fun _ => ?_) (fun z => absurd z (by omega)))
  refine ⟨L + 1, tm_law27 hL H (L + 1) 1 0 (nI q) 0 0 0 0 0 _ _ _ _ _ _ _ (fun _ => 0) (fun _ => 0) (fun _ => 0) q (by omega) (by omega) ⟨⟨tm_sm_0, fun j _ => ⟨rfl, rfl, rfl, Nat.zero_le 16, Nat.zero_le 16, Nat.zero_le 20⟩, fun j _ z => ?_⟩, rfl, hq, fun z => absurd rfl z⟩ (fun j _ z => ?_)⟩
  · rw [tm_b0] at z
    exact absurd z (by decide)
  · rw [tm_b0] at z
    exact absurd z (by decide)
end
end
section
theorem i_vc (xs : Nat → Int32) (L : Nat) (hL : L ≤ 260) : wpL_law (fun r => r = 1) L xs := by
  refine pk_le L 0 (fun _ => tm_law18 (post := fun r => r = 1) hL rfl (q := 1) (by omega) rfl) (fun z => ⟨pk_in 0 L z, ?_⟩)
  obtain ⟨q, hq, eq⟩ := pk_andE (xs (0 : Int32).toNatClampNeg) (m := 3) 2 (by decide)
  exact tm_law18 (post := fun r => r = 1) hL rfl (by omega) eq
end
